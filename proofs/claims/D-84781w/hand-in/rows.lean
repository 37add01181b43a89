section
-- ===== PART A: goes FIRST, ahead of the names: the tables' words, and 'selects' of the private methods out of them =====
/-- a private method of a class that the tables say can be made, by its rows of tables_1 -/
def lw_okq (q : MethodName × Nat) : Prop := (q.1.cls ≠ "java/lang/invoke/MethodHandle" ∧ q.1.cls ≠ "java/lang/invoke/VarHandle") ∧ Cond.instantiable q.1.cls q.2 ∈ tables_1 ∧ Cond.privateMethod q.1 ∈ tables_1 ∧ Cond.instanceMethod q.1 ∈ tables_1
set_option maxRecDepth 100000
theorem lw_t1 {w : Cond} (h : w ∈ tables_1_1) : w ∈ tables_1 := List.mem_append_left _ h
theorem lw_t2 {w : Cond} (h : w ∈ tables_1_2) : w ∈ tables_1 := List.mem_append_right _ h
theorem lw_p0 : lw_okq (⟨"WireWays", "isPort", "(II)Z"⟩, 10) := ⟨⟨by decide +kernel, by decide +kernel⟩, lw_t1 (List.mem_of_getElem? (i := 5) rfl), lw_t1 (List.mem_of_getElem? (i := 56) rfl), lw_t1 (List.mem_of_getElem? (i := 57) rfl)⟩
theorem lw_p1 : lw_okq (⟨"WireWays", "turn", "(IZ)Z"⟩, 10) := ⟨⟨by decide +kernel, by decide +kernel⟩, lw_t1 (List.mem_of_getElem? (i := 5) rfl), lw_t1 (List.mem_of_getElem? (i := 72) rfl), lw_t1 (List.mem_of_getElem? (i := 73) rfl)⟩
theorem lw_p2 : lw_okq (⟨"WireWays", "spot", "(IZI)I"⟩, 10) := ⟨⟨by decide +kernel, by decide +kernel⟩, lw_t1 (List.mem_of_getElem? (i := 5) rfl), lw_t1 (List.mem_of_getElem? (i := 84) rfl), lw_t1 (List.mem_of_getElem? (i := 85) rfl)⟩
theorem lw_p3 : lw_okq (⟨"WireWays", "reckon", "()V"⟩, 10) := ⟨⟨by decide +kernel, by decide +kernel⟩, lw_t1 (List.mem_of_getElem? (i := 5) rfl), lw_t1 (List.mem_of_getElem? (i := 88) rfl), lw_t1 (List.mem_of_getElem? (i := 89) rfl)⟩
theorem lw_p4 : lw_okq (⟨"WireWays", "direct", "(II)I"⟩, 10) := ⟨⟨by decide +kernel, by decide +kernel⟩, lw_t1 (List.mem_of_getElem? (i := 5) rfl), lw_t1 (List.mem_of_getElem? (i := 92) rfl), lw_t1 (List.mem_of_getElem? (i := 93) rfl)⟩
theorem lw_p5 : lw_okq (⟨"WireWays", "better", "(I)Z"⟩, 10) := ⟨⟨by decide +kernel, by decide +kernel⟩, lw_t1 (List.mem_of_getElem? (i := 5) rfl), lw_t1 (List.mem_of_getElem? (i := 96) rfl), lw_t1 (List.mem_of_getElem? (i := 97) rfl)⟩
theorem lw_p6 : lw_okq (⟨"WireWays", "isUp", "(II)Z"⟩, 10) := ⟨⟨by decide +kernel, by decide +kernel⟩, lw_t1 (List.mem_of_getElem? (i := 5) rfl), lw_t1 (List.mem_of_getElem? (i := 100) rfl), lw_t1 (List.mem_of_getElem? (i := 101) rfl)⟩
theorem lw_p7 : lw_okq (⟨"WireWays", "best", "(II)I"⟩, 10) := ⟨⟨by decide +kernel, by decide +kernel⟩, lw_t1 (List.mem_of_getElem? (i := 5) rfl), lw_t1 (List.mem_of_getElem? (i := 104) rfl), lw_t1 (List.mem_of_getElem? (i := 105) rfl)⟩
theorem lw_p8 : lw_okq (⟨"WireWays", "greatest", "()I"⟩, 10) := ⟨⟨by decide +kernel, by decide +kernel⟩, lw_t1 (List.mem_of_getElem? (i := 5) rfl), lw_t1 (List.mem_of_getElem? (i := 130) rfl), lw_t1 (List.mem_of_getElem? (i := 131) rfl)⟩
theorem lw_p9 : lw_okq (⟨"WireWaysModel", "isPlace", "(II)Z"⟩, 7) := ⟨⟨by decide +kernel, by decide +kernel⟩, lw_t1 (List.mem_of_getElem? (i := 137) rfl), lw_t1 (List.mem_of_getElem? (i := 169) rfl), lw_t1 (List.mem_of_getElem? (i := 170) rfl)⟩
theorem lw_p10 : lw_okq (⟨"WireWaysModel", "isRouter", "(I)Z"⟩, 7) := ⟨⟨by decide +kernel, by decide +kernel⟩, lw_t1 (List.mem_of_getElem? (i := 137) rfl), lw_t1 (List.mem_of_getElem? (i := 173) rfl), lw_t1 (List.mem_of_getElem? (i := 174) rfl)⟩
theorem lw_p11 : lw_okq (⟨"WireWaysModel", "portOn", "(II)I"⟩, 7) := ⟨⟨by decide +kernel, by decide +kernel⟩, lw_t1 (List.mem_of_getElem? (i := 137) rfl), lw_t1 (List.mem_of_getElem? (i := 180) rfl), lw_t1 (List.mem_of_getElem? (i := 181) rfl)⟩
theorem lw_p12 : lw_okq (⟨"WireWaysModel", "isAsked", "(IZI)Z"⟩, 7) := ⟨⟨by decide +kernel, by decide +kernel⟩, lw_t1 (List.mem_of_getElem? (i := 137) rfl), lw_t1 (List.mem_of_getElem? (i := 204) rfl), lw_t1 (List.mem_of_getElem? (i := 205) rfl)⟩
theorem lw_p13 : lw_okq (⟨"WireWaysModel", "reckon", "(ZI)V"⟩, 7) := ⟨⟨by decide +kernel, by decide +kernel⟩, lw_t1 (List.mem_of_getElem? (i := 137) rfl), lw_t1 (List.mem_of_getElem? (i := 208) rfl), lw_t1 (List.mem_of_getElem? (i := 209) rfl)⟩
theorem lw_p14 : lw_okq (⟨"WireWaysModel", "isAt", "(IZI)Z"⟩, 7) := ⟨⟨by decide +kernel, by decide +kernel⟩, lw_t1 (List.mem_of_getElem? (i := 137) rfl), lw_t1 (List.mem_of_getElem? (i := 212) rfl), lw_t1 (List.mem_of_getElem? (i := 213) rfl)⟩
theorem lw_p15 : lw_okq (⟨"WireWaysModel", "by", "(III)I"⟩, 7) := ⟨⟨by decide +kernel, by decide +kernel⟩, lw_t1 (List.mem_of_getElem? (i := 137) rfl), lw_t1 (List.mem_of_getElem? (i := 217) rfl), lw_t1 (List.mem_of_getElem? (i := 218) rfl)⟩
def lw_privs_1 : List (MethodName × Nat) := [(⟨"WireWays", "isPort", "(II)Z"⟩, 10), (⟨"WireWays", "turn", "(IZ)Z"⟩, 10), (⟨"WireWays", "spot", "(IZI)I"⟩, 10), (⟨"WireWays", "reckon", "()V"⟩, 10), (⟨"WireWays", "direct", "(II)I"⟩, 10), (⟨"WireWays", "better", "(I)Z"⟩, 10), (⟨"WireWays", "isUp", "(II)Z"⟩, 10), (⟨"WireWays", "best", "(II)I"⟩, 10), (⟨"WireWays", "greatest", "()I"⟩, 10), (⟨"WireWaysModel", "isPlace", "(II)Z"⟩, 7), (⟨"WireWaysModel", "isRouter", "(I)Z"⟩, 7), (⟨"WireWaysModel", "portOn", "(II)I"⟩, 7), (⟨"WireWaysModel", "isAsked", "(IZI)Z"⟩, 7), (⟨"WireWaysModel", "reckon", "(ZI)V"⟩, 7), (⟨"WireWaysModel", "isAt", "(IZI)Z"⟩, 7), (⟨"WireWaysModel", "by", "(III)I"⟩, 7)]
theorem lw_r1 : ∀ q ∈ lw_privs_1, lw_okq q := List.forall_mem_cons.mpr ⟨lw_p0, List.forall_mem_cons.mpr ⟨lw_p1, List.forall_mem_cons.mpr ⟨lw_p2, List.forall_mem_cons.mpr ⟨lw_p3, List.forall_mem_cons.mpr ⟨lw_p4, List.forall_mem_cons.mpr ⟨lw_p5, List.forall_mem_cons.mpr ⟨lw_p6, List.forall_mem_cons.mpr ⟨lw_p7, List.forall_mem_cons.mpr ⟨lw_p8, List.forall_mem_cons.mpr ⟨lw_p9, List.forall_mem_cons.mpr ⟨lw_p10, List.forall_mem_cons.mpr ⟨lw_p11, List.forall_mem_cons.mpr ⟨lw_p12, List.forall_mem_cons.mpr ⟨lw_p13, List.forall_mem_cons.mpr ⟨lw_p14, List.forall_mem_cons.mpr ⟨lw_p15, fun _ h => absurd h List.not_mem_nil⟩⟩⟩⟩⟩⟩⟩⟩⟩⟩⟩⟩⟩⟩⟩⟩
theorem lw_p16 : lw_okq (⟨"WireWaysModel", "choose", "(IZI)V"⟩, 7) := ⟨⟨by decide +kernel, by decide +kernel⟩, lw_t1 (List.mem_of_getElem? (i := 137) rfl), lw_t1 (List.mem_of_getElem? (i := 221) rfl), lw_t1 (List.mem_of_getElem? (i := 222) rfl)⟩
theorem lw_p17 : lw_okq (⟨"WireWaysModel", "greatest", "()I"⟩, 7) := ⟨⟨by decide +kernel, by decide +kernel⟩, lw_t1 (List.mem_of_getElem? (i := 137) rfl), lw_t2 (List.mem_of_getElem? (i := 6) rfl), lw_t2 (List.mem_of_getElem? (i := 7) rfl)⟩
def lw_privs_2 : List (MethodName × Nat) := [(⟨"WireWaysModel", "choose", "(IZI)V"⟩, 7), (⟨"WireWaysModel", "greatest", "()I"⟩, 7)]
theorem lw_r2 : ∀ q ∈ lw_privs_2, lw_okq q := List.forall_mem_cons.mpr ⟨lw_p16, List.forall_mem_cons.mpr ⟨lw_p17, fun _ h => absurd h List.not_mem_nil⟩⟩
def lw_privs : List (MethodName × Nat) := lw_privs_1 ++ (lw_privs_2)
def lw_tbl : List Cond := k2_sels lw_privs ++ tables_1
theorem lw_privs_ok : ∀ q ∈ lw_privs, lw_okq q := by
  show ∀ q ∈ lw_privs_1 ++ (lw_privs_2), lw_okq q
  exact List.forall_mem_append.mpr ⟨lw_r1, lw_r2⟩
-- ===== ONE list of words for every method: the tables' words that hold all through a run =====
def lw_all : List Cond := lw_tbl.filter goodWord
/-- a word of the tables by its place: claim/WORDS.tsv -/
theorem lw_w {w : Cond} (i : Nat) (h : lw_tbl[i]? = some w) (g : goodWord w = true) : w ∈ lw_all := List.mem_filter.mpr ⟨List.mem_of_getElem? h, g⟩
theorem lw_all_tbl {w : Cond} (h : w ∈ lw_all) : w ∈ lw_tbl := (List.mem_filter.mp h).1
theorem lw_self : GoodIn lw_all lw_all := fun w h => ⟨h, good_of_word (List.mem_filter.mp h).2⟩
/-- a class's field words, by their places -/
theorem lw_in (ws : List Cond) (ps : List Nat) (hp : ws = ps.filterMap (fun i => lw_tbl[i]?)) (hg : ws.all goodWord = true) : ∀ w ∈ ws, w ∈ lw_all := by
  intro w h
  have h1 := List.all_eq_true.mp hg w h
  rw [hp] at h
  obtain ⟨i, -, hi⟩ := List.mem_filterMap.mp h
  exact lw_w i hi h1
/-- the words of a contract for the method y with code b, L locals, answer r -/
abbrev ws_ (y : MethodName) (b : ByteArray) (L : Nat) (r : Option FieldType) : List Cond := Cond.code y b L r :: lw_all
theorem lw_meth {y : MethodName} {b : ByteArray} {L : Nat} {r : Option FieldType} (h : Cond.code y b L r ∈ lw_all) : GoodIn lw_all (ws_ y b L r) := by
  intro w hw
  rcases List.mem_cons.mp hw with e | e
  · rw [e]
    exact lw_self _ h
  · exact lw_self _ e
theorem lw_app {a c : List Cond} (ha : ∀ w ∈ a, w ∈ lw_all) (hc : GoodIn lw_all c) : GoodIn lw_all (a ++ c) := by
  intro w hw
  rcases List.mem_append.mp hw with e | e
  · exact lw_self w (ha w e)
  · exact hc w e
/-- what a call through an object asks: cwV n hts (lw_V ..) -/
theorem lw_V {own : String} {idx : Nat} {C : String} {y : MethodName} {b : ByteArray} {L : Nat} {r : Option FieldType} (h1 : Cond.methodLink own idx y ∈ lw_all) (h2 : Cond.instanceMethod y ∈ lw_all) (h3 : Cond.selects C y y ∈ lw_all) (h4 : Cond.initialized C ∈ lw_all) (h5 : Cond.code y b L r ∈ lw_all) : GoodIn lw_all (wsV own idx C y (ws_ y b L r)) := by
  refine lw_app ?_ (lw_meth h5)
  intro w hw
  simp only [List.mem_cons, List.not_mem_nil, or_false] at hw
  rcases hw with e | e | e | e
  · rw [e]; exact h1
  · rw [e]; exact h2
  · rw [e]; exact h3
  · rw [e]; exact h4
/-- what a static call asks: va_cwS n hts (lw_S ..) -/
theorem lw_S {own : String} {idx : Nat} {y : MethodName} {b : ByteArray} {L : Nat} {r : Option FieldType} (h1 : Cond.methodLink own idx y ∈ lw_all) (h2 : Cond.static y ∈ lw_all) (h3 : Cond.initialized y.cls ∈ lw_all) (h4 : Cond.code y b L r ∈ lw_all) : GoodIn lw_all (va_wsS own idx y (ws_ y b L r)) := by
  refine lw_app ?_ (lw_meth h4)
  intro w hw
  simp only [List.mem_cons, List.not_mem_nil, or_false] at hw
  rcases hw with e | e | e
  · rw [e]; exact h1
  · rw [e]; exact h2
  · rw [e]; exact h3
/-- the words of a contract for a method WITH HANDLERS (hh: its table) -/
abbrev wsW_ (y : MethodName) (b : ByteArray) (L : Nat) (r : Option FieldType) (hh : List (Nat × Nat × Nat × Nat)) : List Cond := Cond.codeWith y b L r hh :: lw_all
theorem lw_methW {y : MethodName} {b : ByteArray} {L : Nat} {r : Option FieldType} {hh : List (Nat × Nat × Nat × Nat)} (h : Cond.codeWith y b L r hh ∈ lw_all) : GoodIn lw_all (wsW_ y b L r hh) := by
  intro w hw
  rcases List.mem_cons.mp hw with e | e
  · rw [e]
    exact lw_self _ h
  · exact lw_self _ e
/-- any list of words by their places (lw_in), good -/
theorem lw_good {ws : List Cond} (h : ∀ w ∈ ws, w ∈ lw_all) : GoodIn lw_all ws := fun w hw => lw_self w (h w hw)
/-- what a call of a method with handlers asks: vx_cwVW n hts (lw_VW ..), vx_cwSW n hts (lw_SW ..) -/
theorem lw_VW {own : String} {idx : Nat} {C : String} {y : MethodName} {b : ByteArray} {L : Nat} {r : Option FieldType} {hh : List (Nat × Nat × Nat × Nat)} (h1 : Cond.methodLink own idx y ∈ lw_all) (h2 : Cond.instanceMethod y ∈ lw_all) (h3 : Cond.selects C y y ∈ lw_all) (h4 : Cond.initialized C ∈ lw_all) (h5 : Cond.codeWith y b L r hh ∈ lw_all) : GoodIn lw_all (wsV own idx C y (wsW_ y b L r hh)) := by
  refine lw_app ?_ (lw_methW h5)
  intro w hw
  simp only [List.mem_cons, List.not_mem_nil, or_false] at hw
  rcases hw with e | e | e | e
  · rw [e]; exact h1
  · rw [e]; exact h2
  · rw [e]; exact h3
  · rw [e]; exact h4
theorem lw_SW {own : String} {idx : Nat} {y : MethodName} {b : ByteArray} {L : Nat} {r : Option FieldType} {hh : List (Nat × Nat × Nat × Nat)} (h1 : Cond.methodLink own idx y ∈ lw_all) (h2 : Cond.static y ∈ lw_all) (h3 : Cond.initialized y.cls ∈ lw_all) (h4 : Cond.codeWith y b L r hh ∈ lw_all) : GoodIn lw_all (va_wsS own idx y (wsW_ y b L r hh)) := by
  refine lw_app ?_ (lw_methW h4)
  intro w hw
  simp only [List.mem_cons, List.not_mem_nil, or_false] at hw
  rcases hw with e | e | e
  · rw [e]; exact h1
  · rw [e]; exact h2
  · rw [e]; exact h3
/-- a word by its place in its run of the tables -/
theorem lw_at {r : List Cond} (hr : ∀ w ∈ r, w ∈ lw_tbl) {w : Cond} (i : Nat) (h : r[i]? = some w) : w ∈ lw_tbl := hr w (List.mem_of_getElem? h)
theorem lw_g {w : Cond} (h : w ∈ lw_tbl) (g : goodWord w = true) : w ∈ lw_all := List.mem_filter.mpr ⟨h, g⟩
theorem lw_ms : ∀ w ∈ k2_sels lw_privs, w ∈ lw_tbl := fun w h => show w ∈ k2_sels lw_privs ++ tables_1 from List.mem_append_left _ h
theorem lw_m1 : ∀ w ∈ tables_1_1, w ∈ lw_tbl := fun w h => show w ∈ k2_sels lw_privs ++ tables_1 from List.mem_append_right (k2_sels lw_privs) (show w ∈ tables_1 from List.mem_append_left _ h)
theorem lw_m2 : ∀ w ∈ tables_1_2, w ∈ lw_tbl := fun w h => show w ∈ k2_sels lw_privs ++ tables_1 from List.mem_append_right (k2_sels lw_privs) (show w ∈ tables_1 from List.mem_append_right _ h)
theorem qs0 : (Cond.selects "WireWays" ⟨"WireWays", "isPort", "(II)Z"⟩ ⟨"WireWays", "isPort", "(II)Z"⟩) ∈ lw_all := lw_g (lw_at lw_ms 0 rfl) rfl
theorem qs1 : (Cond.selects "WireWays" ⟨"WireWays", "turn", "(IZ)Z"⟩ ⟨"WireWays", "turn", "(IZ)Z"⟩) ∈ lw_all := lw_g (lw_at lw_ms 1 rfl) rfl
theorem qs2 : (Cond.selects "WireWays" ⟨"WireWays", "spot", "(IZI)I"⟩ ⟨"WireWays", "spot", "(IZI)I"⟩) ∈ lw_all := lw_g (lw_at lw_ms 2 rfl) rfl
theorem qs3 : (Cond.selects "WireWays" ⟨"WireWays", "reckon", "()V"⟩ ⟨"WireWays", "reckon", "()V"⟩) ∈ lw_all := lw_g (lw_at lw_ms 3 rfl) rfl
theorem qs4 : (Cond.selects "WireWays" ⟨"WireWays", "direct", "(II)I"⟩ ⟨"WireWays", "direct", "(II)I"⟩) ∈ lw_all := lw_g (lw_at lw_ms 4 rfl) rfl
theorem qs5 : (Cond.selects "WireWays" ⟨"WireWays", "better", "(I)Z"⟩ ⟨"WireWays", "better", "(I)Z"⟩) ∈ lw_all := lw_g (lw_at lw_ms 5 rfl) rfl
theorem qs6 : (Cond.selects "WireWays" ⟨"WireWays", "isUp", "(II)Z"⟩ ⟨"WireWays", "isUp", "(II)Z"⟩) ∈ lw_all := lw_g (lw_at lw_ms 6 rfl) rfl
theorem qs7 : (Cond.selects "WireWays" ⟨"WireWays", "best", "(II)I"⟩ ⟨"WireWays", "best", "(II)I"⟩) ∈ lw_all := lw_g (lw_at lw_ms 7 rfl) rfl
theorem qs8 : (Cond.selects "WireWays" ⟨"WireWays", "greatest", "()I"⟩ ⟨"WireWays", "greatest", "()I"⟩) ∈ lw_all := lw_g (lw_at lw_ms 8 rfl) rfl
theorem qs9 : (Cond.selects "WireWaysModel" ⟨"WireWaysModel", "isPlace", "(II)Z"⟩ ⟨"WireWaysModel", "isPlace", "(II)Z"⟩) ∈ lw_all := lw_g (lw_at lw_ms 9 rfl) rfl
theorem qs10 : (Cond.selects "WireWaysModel" ⟨"WireWaysModel", "isRouter", "(I)Z"⟩ ⟨"WireWaysModel", "isRouter", "(I)Z"⟩) ∈ lw_all := lw_g (lw_at lw_ms 10 rfl) rfl
theorem qs11 : (Cond.selects "WireWaysModel" ⟨"WireWaysModel", "portOn", "(II)I"⟩ ⟨"WireWaysModel", "portOn", "(II)I"⟩) ∈ lw_all := lw_g (lw_at lw_ms 11 rfl) rfl
theorem qs12 : (Cond.selects "WireWaysModel" ⟨"WireWaysModel", "isAsked", "(IZI)Z"⟩ ⟨"WireWaysModel", "isAsked", "(IZI)Z"⟩) ∈ lw_all := lw_g (lw_at lw_ms 12 rfl) rfl
theorem qs13 : (Cond.selects "WireWaysModel" ⟨"WireWaysModel", "reckon", "(ZI)V"⟩ ⟨"WireWaysModel", "reckon", "(ZI)V"⟩) ∈ lw_all := lw_g (lw_at lw_ms 13 rfl) rfl
theorem qs14 : (Cond.selects "WireWaysModel" ⟨"WireWaysModel", "isAt", "(IZI)Z"⟩ ⟨"WireWaysModel", "isAt", "(IZI)Z"⟩) ∈ lw_all := lw_g (lw_at lw_ms 14 rfl) rfl
theorem qs15 : (Cond.selects "WireWaysModel" ⟨"WireWaysModel", "by", "(III)I"⟩ ⟨"WireWaysModel", "by", "(III)I"⟩) ∈ lw_all := lw_g (lw_at lw_ms 15 rfl) rfl
theorem qs16 : (Cond.selects "WireWaysModel" ⟨"WireWaysModel", "choose", "(IZI)V"⟩ ⟨"WireWaysModel", "choose", "(IZI)V"⟩) ∈ lw_all := lw_g (lw_at lw_ms 16 rfl) rfl
theorem qs17 : (Cond.selects "WireWaysModel" ⟨"WireWaysModel", "greatest", "()I"⟩ ⟨"WireWaysModel", "greatest", "()I"⟩) ∈ lw_all := lw_g (lw_at lw_ms 17 rfl) rfl
end
section
/-! WireWays -/
set_option maxRecDepth 100000
def RX1 : String := "WireWays"
def TX1 : u_T := fun k => match k with
  | 0 => ("WireWays", "routers", "I", true)
  | 1 => ("WireWays", "wireOf", "[I", true)
  | 2 => ("WireWays", "costOf", "[I", true)
  | 3 => ("WireWays", "portOn", "[I", true)
  | 4 => ("WireWays", "isCut", "[Z", true)
  | 5 => ("WireWays", "far", "[I", true)
  | 6 => ("WireWays", "ways", "[I", true)
  | 7 => ("WireWays", "isOld", "Z", false)
  | 8 => ("WireWays", "plugs", "I", false)
  | _ => ("WireWays", "cuts", "I", false)
def tyX1 : Nat → FieldType := fun k => match k with
  | 0 => .int
  | 1 => .array .int
  | 2 => .array .int
  | 3 => .array .int
  | 4 => .array .boolean
  | 5 => .array .int
  | 6 => .array .int
  | 7 => .boolean
  | 8 => .int
  | _ => .int
abbrev wsX10 : List Cond := u_ws RX1 TX1 10
theorem nmX1 : ∀ a, a < 10 → ∀ b, b < 10 → a ≠ b → (TX1 a).2.1 ≠ (TX1 b).2.1 := by decide +kernel
theorem tyX1_ok : ∀ k, k < 10 → parseFieldDescriptor (TX1 k).2.2.1 = some (tyX1 k) := by decide +kernel
abbrev cX1_init : ByteArray := prog_1_method_1_code
def yX1_init : MethodName := ⟨RX1, "<init>", "(I)V"⟩
theorem dX1_init_0 : decode cX1_init 0 = .ok (.aload_n 0, 1) := by decide +kernel
theorem dX1_init_1 : decode cX1_init 1 = .ok (.invokespecial 1, 3) := by decide +kernel
theorem dX1_init_4 : decode cX1_init 4 = .ok (.aload_n 0, 1) := by decide +kernel
theorem dX1_init_5 : decode cX1_init 5 = .ok (.bipush 40, 2) := by decide +kernel
theorem dX1_init_7 : decode cX1_init 7 = .ok (.newarray .int, 2) := by decide +kernel
theorem dX1_init_9 : decode cX1_init 9 = .ok (.putfield 7, 3) := by decide +kernel
theorem dX1_init_12 : decode cX1_init 12 = .ok (.aload_n 0, 1) := by decide +kernel
theorem dX1_init_13 : decode cX1_init 13 = .ok (.bipush 40, 2) := by decide +kernel
theorem dX1_init_15 : decode cX1_init 15 = .ok (.newarray .int, 2) := by decide +kernel
theorem dX1_init_17 : decode cX1_init 17 = .ok (.putfield 13, 3) := by decide +kernel
theorem dX1_init_20 : decode cX1_init 20 = .ok (.aload_n 0, 1) := by decide +kernel
theorem dX1_init_21 : decode cX1_init 21 = .ok (.sipush 160, 3) := by decide +kernel
theorem dX1_init_24 : decode cX1_init 24 = .ok (.newarray .int, 2) := by decide +kernel
theorem dX1_init_26 : decode cX1_init 26 = .ok (.putfield 16, 3) := by decide +kernel
theorem dX1_init_29 : decode cX1_init 29 = .ok (.aload_n 0, 1) := by decide +kernel
theorem dX1_init_30 : decode cX1_init 30 = .ok (.bipush 16, 2) := by decide +kernel
theorem dX1_init_32 : decode cX1_init 32 = .ok (.newarray .boolean, 2) := by decide +kernel
theorem dX1_init_34 : decode cX1_init 34 = .ok (.putfield 19, 3) := by decide +kernel
theorem dX1_init_37 : decode cX1_init 37 = .ok (.aload_n 0, 1) := by decide +kernel
theorem dX1_init_38 : decode cX1_init 38 = .ok (.sipush 260, 3) := by decide +kernel
theorem dX1_init_41 : decode cX1_init 41 = .ok (.newarray .int, 2) := by decide +kernel
theorem dX1_init_43 : decode cX1_init 43 = .ok (.putfield 23, 3) := by decide +kernel
theorem dX1_init_46 : decode cX1_init 46 = .ok (.aload_n 0, 1) := by decide +kernel
theorem dX1_init_47 : decode cX1_init 47 = .ok (.sipush 260, 3) := by decide +kernel
theorem dX1_init_50 : decode cX1_init 50 = .ok (.newarray .int, 2) := by decide +kernel
theorem dX1_init_52 : decode cX1_init 52 = .ok (.putfield 26, 3) := by decide +kernel
theorem dX1_init_55 : decode cX1_init 55 = .ok (.aload_n 0, 1) := by decide +kernel
theorem dX1_init_56 : decode cX1_init 56 = .ok (.iconst 1, 1) := by decide +kernel
theorem dX1_init_57 : decode cX1_init 57 = .ok (.putfield 29, 3) := by decide +kernel
theorem dX1_init_60 : decode cX1_init 60 = .ok (.aload_n 0, 1) := by decide +kernel
theorem dX1_init_61 : decode cX1_init 61 = .ok (.iconst 1, 1) := by decide +kernel
theorem dX1_init_62 : decode cX1_init 62 = .ok (.bipush 10, 2) := by decide +kernel
theorem dX1_init_64 : decode cX1_init 64 = .ok (.iload_n 1, 1) := by decide +kernel
theorem dX1_init_65 : decode cX1_init 65 = .ok (.invokestatic 33, 3) := by decide +kernel
theorem dX1_init_68 : decode cX1_init 68 = .ok (.invokestatic 39, 3) := by decide +kernel
theorem dX1_init_71 : decode cX1_init 71 = .ok (.putfield 42, 3) := by decide +kernel
theorem dX1_init_74 : decode cX1_init 74 = .ok (.iconst 0, 1) := by decide +kernel
theorem dX1_init_75 : decode cX1_init 75 = .ok (.istore_n 2, 1) := by decide +kernel
theorem dX1_init_76 : decode cX1_init 76 = .ok (.iload_n 2, 1) := by decide +kernel
theorem dX1_init_77 : decode cX1_init 77 = .ok (.bipush 40, 2) := by decide +kernel
theorem dX1_init_79 : decode cX1_init 79 = .ok (.if_icmp .ge 16, 3) := by decide +kernel
theorem dX1_init_82 : decode cX1_init 82 = .ok (.aload_n 0, 1) := by decide +kernel
theorem dX1_init_83 : decode cX1_init 83 = .ok (.getfield 7, 3) := by decide +kernel
theorem dX1_init_86 : decode cX1_init 86 = .ok (.iload_n 2, 1) := by decide +kernel
theorem dX1_init_87 : decode cX1_init 87 = .ok (.iconst (-1), 1) := by decide +kernel
theorem dX1_init_88 : decode cX1_init 88 = .ok (.iastore, 1) := by decide +kernel
theorem dX1_init_89 : decode cX1_init 89 = .ok (.iinc 2 1, 3) := by decide +kernel
theorem dX1_init_92 : decode cX1_init 92 = .ok (.goto (-16), 3) := by decide +kernel
theorem dX1_init_95 : decode cX1_init 95 = .ok (.iconst 0, 1) := by decide +kernel
theorem dX1_init_96 : decode cX1_init 96 = .ok (.istore_n 2, 1) := by decide +kernel
theorem dX1_init_97 : decode cX1_init 97 = .ok (.iload_n 2, 1) := by decide +kernel
theorem dX1_init_98 : decode cX1_init 98 = .ok (.sipush 160, 3) := by decide +kernel
theorem dX1_init_101 : decode cX1_init 101 = .ok (.if_icmp .ge 16, 3) := by decide +kernel
theorem dX1_init_104 : decode cX1_init 104 = .ok (.aload_n 0, 1) := by decide +kernel
theorem dX1_init_105 : decode cX1_init 105 = .ok (.getfield 16, 3) := by decide +kernel
theorem dX1_init_108 : decode cX1_init 108 = .ok (.iload_n 2, 1) := by decide +kernel
theorem dX1_init_109 : decode cX1_init 109 = .ok (.iconst (-1), 1) := by decide +kernel
theorem dX1_init_110 : decode cX1_init 110 = .ok (.iastore, 1) := by decide +kernel
theorem dX1_init_111 : decode cX1_init 111 = .ok (.iinc 2 1, 3) := by decide +kernel
theorem dX1_init_114 : decode cX1_init 114 = .ok (.goto (-17), 3) := by decide +kernel
theorem dX1_init_117 : decode cX1_init 117 = .ok (.return_, 1) := by decide +kernel
abbrev cX1_plug : ByteArray := prog_1_method_3_code
def yX1_plug : MethodName := ⟨RX1, "plug", "(IIII)Z"⟩
theorem dX1_plug_0 : decode cX1_plug 0 = .ok (.aload_n 0, 1) := by decide +kernel
theorem dX1_plug_1 : decode cX1_plug 1 = .ok (.iload_n 1, 1) := by decide +kernel
theorem dX1_plug_2 : decode cX1_plug 2 = .ok (.iload_n 2, 1) := by decide +kernel
theorem dX1_plug_3 : decode cX1_plug 3 = .ok (.invokevirtual 46, 3) := by decide +kernel
theorem dX1_plug_6 : decode cX1_plug 6 = .ok (.ifCond .eq 26, 3) := by decide +kernel
theorem dX1_plug_9 : decode cX1_plug 9 = .ok (.iload_n 3, 1) := by decide +kernel
theorem dX1_plug_10 : decode cX1_plug 10 = .ok (.ifCond .lt 22, 3) := by decide +kernel
theorem dX1_plug_13 : decode cX1_plug 13 = .ok (.iload_n 3, 1) := by decide +kernel
theorem dX1_plug_14 : decode cX1_plug 14 = .ok (.bipush 16, 2) := by decide +kernel
theorem dX1_plug_16 : decode cX1_plug 16 = .ok (.if_icmp .ge 16, 3) := by decide +kernel
theorem dX1_plug_19 : decode cX1_plug 19 = .ok (.iload 4, 2) := by decide +kernel
theorem dX1_plug_21 : decode cX1_plug 21 = .ok (.iconst 1, 1) := by decide +kernel
theorem dX1_plug_22 : decode cX1_plug 22 = .ok (.if_icmp .lt 10, 3) := by decide +kernel
theorem dX1_plug_25 : decode cX1_plug 25 = .ok (.iload 4, 2) := by decide +kernel
theorem dX1_plug_27 : decode cX1_plug 27 = .ok (.bipush 9, 2) := by decide +kernel
theorem dX1_plug_29 : decode cX1_plug 29 = .ok (.if_icmp .le 5, 3) := by decide +kernel
theorem dX1_plug_32 : decode cX1_plug 32 = .ok (.iconst 0, 1) := by decide +kernel
theorem dX1_plug_33 : decode cX1_plug 33 = .ok (.ireturn, 1) := by decide +kernel
theorem dX1_plug_34 : decode cX1_plug 34 = .ok (.aload_n 0, 1) := by decide +kernel
theorem dX1_plug_35 : decode cX1_plug 35 = .ok (.getfield 7, 3) := by decide +kernel
theorem dX1_plug_38 : decode cX1_plug 38 = .ok (.iload_n 1, 1) := by decide +kernel
theorem dX1_plug_39 : decode cX1_plug 39 = .ok (.iconst 4, 1) := by decide +kernel
theorem dX1_plug_40 : decode cX1_plug 40 = .ok (.imul, 1) := by decide +kernel
theorem dX1_plug_41 : decode cX1_plug 41 = .ok (.iload_n 2, 1) := by decide +kernel
theorem dX1_plug_42 : decode cX1_plug 42 = .ok (.iadd, 1) := by decide +kernel
theorem dX1_plug_43 : decode cX1_plug 43 = .ok (.iaload, 1) := by decide +kernel
theorem dX1_plug_44 : decode cX1_plug 44 = .ok (.iconst (-1), 1) := by decide +kernel
theorem dX1_plug_45 : decode cX1_plug 45 = .ok (.if_icmp .ne 18, 3) := by decide +kernel
theorem dX1_plug_48 : decode cX1_plug 48 = .ok (.aload_n 0, 1) := by decide +kernel
theorem dX1_plug_49 : decode cX1_plug 49 = .ok (.getfield 16, 3) := by decide +kernel
theorem dX1_plug_52 : decode cX1_plug 52 = .ok (.iload_n 1, 1) := by decide +kernel
theorem dX1_plug_53 : decode cX1_plug 53 = .ok (.bipush 16, 2) := by decide +kernel
theorem dX1_plug_55 : decode cX1_plug 55 = .ok (.imul, 1) := by decide +kernel
theorem dX1_plug_56 : decode cX1_plug 56 = .ok (.iload_n 3, 1) := by decide +kernel
theorem dX1_plug_57 : decode cX1_plug 57 = .ok (.iadd, 1) := by decide +kernel
theorem dX1_plug_58 : decode cX1_plug 58 = .ok (.iaload, 1) := by decide +kernel
theorem dX1_plug_59 : decode cX1_plug 59 = .ok (.iconst (-1), 1) := by decide +kernel
theorem dX1_plug_60 : decode cX1_plug 60 = .ok (.if_icmp .eq 5, 3) := by decide +kernel
theorem dX1_plug_63 : decode cX1_plug 63 = .ok (.iconst 0, 1) := by decide +kernel
theorem dX1_plug_64 : decode cX1_plug 64 = .ok (.ireturn, 1) := by decide +kernel
theorem dX1_plug_65 : decode cX1_plug 65 = .ok (.aload_n 0, 1) := by decide +kernel
theorem dX1_plug_66 : decode cX1_plug 66 = .ok (.getfield 7, 3) := by decide +kernel
theorem dX1_plug_69 : decode cX1_plug 69 = .ok (.iload_n 1, 1) := by decide +kernel
theorem dX1_plug_70 : decode cX1_plug 70 = .ok (.iconst 4, 1) := by decide +kernel
theorem dX1_plug_71 : decode cX1_plug 71 = .ok (.imul, 1) := by decide +kernel
theorem dX1_plug_72 : decode cX1_plug 72 = .ok (.iload_n 2, 1) := by decide +kernel
theorem dX1_plug_73 : decode cX1_plug 73 = .ok (.iadd, 1) := by decide +kernel
theorem dX1_plug_74 : decode cX1_plug 74 = .ok (.iload_n 3, 1) := by decide +kernel
theorem dX1_plug_75 : decode cX1_plug 75 = .ok (.iastore, 1) := by decide +kernel
theorem dX1_plug_76 : decode cX1_plug 76 = .ok (.aload_n 0, 1) := by decide +kernel
theorem dX1_plug_77 : decode cX1_plug 77 = .ok (.getfield 13, 3) := by decide +kernel
theorem dX1_plug_80 : decode cX1_plug 80 = .ok (.iload_n 1, 1) := by decide +kernel
theorem dX1_plug_81 : decode cX1_plug 81 = .ok (.iconst 4, 1) := by decide +kernel
theorem dX1_plug_82 : decode cX1_plug 82 = .ok (.imul, 1) := by decide +kernel
theorem dX1_plug_83 : decode cX1_plug 83 = .ok (.iload_n 2, 1) := by decide +kernel
theorem dX1_plug_84 : decode cX1_plug 84 = .ok (.iadd, 1) := by decide +kernel
theorem dX1_plug_85 : decode cX1_plug 85 = .ok (.iload 4, 2) := by decide +kernel
theorem dX1_plug_87 : decode cX1_plug 87 = .ok (.iastore, 1) := by decide +kernel
theorem dX1_plug_88 : decode cX1_plug 88 = .ok (.aload_n 0, 1) := by decide +kernel
theorem dX1_plug_89 : decode cX1_plug 89 = .ok (.getfield 16, 3) := by decide +kernel
theorem dX1_plug_92 : decode cX1_plug 92 = .ok (.iload_n 1, 1) := by decide +kernel
theorem dX1_plug_93 : decode cX1_plug 93 = .ok (.bipush 16, 2) := by decide +kernel
theorem dX1_plug_95 : decode cX1_plug 95 = .ok (.imul, 1) := by decide +kernel
theorem dX1_plug_96 : decode cX1_plug 96 = .ok (.iload_n 3, 1) := by decide +kernel
theorem dX1_plug_97 : decode cX1_plug 97 = .ok (.iadd, 1) := by decide +kernel
theorem dX1_plug_98 : decode cX1_plug 98 = .ok (.iload_n 2, 1) := by decide +kernel
theorem dX1_plug_99 : decode cX1_plug 99 = .ok (.iastore, 1) := by decide +kernel
theorem dX1_plug_100 : decode cX1_plug 100 = .ok (.aload_n 0, 1) := by decide +kernel
theorem dX1_plug_101 : decode cX1_plug 101 = .ok (.dup, 1) := by decide +kernel
theorem dX1_plug_102 : decode cX1_plug 102 = .ok (.getfield 50, 3) := by decide +kernel
theorem dX1_plug_105 : decode cX1_plug 105 = .ok (.iconst 1, 1) := by decide +kernel
theorem dX1_plug_106 : decode cX1_plug 106 = .ok (.iadd, 1) := by decide +kernel
theorem dX1_plug_107 : decode cX1_plug 107 = .ok (.putfield 50, 3) := by decide +kernel
theorem dX1_plug_110 : decode cX1_plug 110 = .ok (.aload_n 0, 1) := by decide +kernel
theorem dX1_plug_111 : decode cX1_plug 111 = .ok (.iconst 1, 1) := by decide +kernel
theorem dX1_plug_112 : decode cX1_plug 112 = .ok (.putfield 29, 3) := by decide +kernel
theorem dX1_plug_115 : decode cX1_plug 115 = .ok (.iconst 1, 1) := by decide +kernel
theorem dX1_plug_116 : decode cX1_plug 116 = .ok (.ireturn, 1) := by decide +kernel
abbrev cX1_isPort : ByteArray := prog_1_method_2_code
def yX1_isPort : MethodName := ⟨RX1, "isPort", "(II)Z"⟩
theorem dX1_isPort_0 : decode cX1_isPort 0 = .ok (.iload_n 1, 1) := by decide +kernel
theorem dX1_isPort_1 : decode cX1_isPort 1 = .ok (.ifCond .lt 24, 3) := by decide +kernel
theorem dX1_isPort_4 : decode cX1_isPort 4 = .ok (.iload_n 1, 1) := by decide +kernel
theorem dX1_isPort_5 : decode cX1_isPort 5 = .ok (.aload_n 0, 1) := by decide +kernel
theorem dX1_isPort_6 : decode cX1_isPort 6 = .ok (.getfield 42, 3) := by decide +kernel
theorem dX1_isPort_9 : decode cX1_isPort 9 = .ok (.if_icmp .ge 16, 3) := by decide +kernel
theorem dX1_isPort_12 : decode cX1_isPort 12 = .ok (.iload_n 2, 1) := by decide +kernel
theorem dX1_isPort_13 : decode cX1_isPort 13 = .ok (.ifCond .lt 12, 3) := by decide +kernel
theorem dX1_isPort_16 : decode cX1_isPort 16 = .ok (.iload_n 2, 1) := by decide +kernel
theorem dX1_isPort_17 : decode cX1_isPort 17 = .ok (.iconst 4, 1) := by decide +kernel
theorem dX1_isPort_18 : decode cX1_isPort 18 = .ok (.if_icmp .ge 7, 3) := by decide +kernel
theorem dX1_isPort_21 : decode cX1_isPort 21 = .ok (.iconst 1, 1) := by decide +kernel
theorem dX1_isPort_22 : decode cX1_isPort 22 = .ok (.goto 4, 3) := by decide +kernel
theorem dX1_isPort_25 : decode cX1_isPort 25 = .ok (.iconst 0, 1) := by decide +kernel
theorem dX1_isPort_26 : decode cX1_isPort 26 = .ok (.ireturn, 1) := by decide +kernel
abbrev cX1_draw : ByteArray := prog_1_method_4_code
def yX1_draw : MethodName := ⟨RX1, "draw", "(II)Z"⟩
theorem dX1_draw_0 : decode cX1_draw 0 = .ok (.aload_n 0, 1) := by decide +kernel
theorem dX1_draw_1 : decode cX1_draw 1 = .ok (.iload_n 1, 1) := by decide +kernel
theorem dX1_draw_2 : decode cX1_draw 2 = .ok (.iload_n 2, 1) := by decide +kernel
theorem dX1_draw_3 : decode cX1_draw 3 = .ok (.invokevirtual 46, 3) := by decide +kernel
theorem dX1_draw_6 : decode cX1_draw 6 = .ok (.ifCond .eq 17, 3) := by decide +kernel
theorem dX1_draw_9 : decode cX1_draw 9 = .ok (.aload_n 0, 1) := by decide +kernel
theorem dX1_draw_10 : decode cX1_draw 10 = .ok (.getfield 7, 3) := by decide +kernel
theorem dX1_draw_13 : decode cX1_draw 13 = .ok (.iload_n 1, 1) := by decide +kernel
theorem dX1_draw_14 : decode cX1_draw 14 = .ok (.iconst 4, 1) := by decide +kernel
theorem dX1_draw_15 : decode cX1_draw 15 = .ok (.imul, 1) := by decide +kernel
theorem dX1_draw_16 : decode cX1_draw 16 = .ok (.iload_n 2, 1) := by decide +kernel
theorem dX1_draw_17 : decode cX1_draw 17 = .ok (.iadd, 1) := by decide +kernel
theorem dX1_draw_18 : decode cX1_draw 18 = .ok (.iaload, 1) := by decide +kernel
theorem dX1_draw_19 : decode cX1_draw 19 = .ok (.iconst (-1), 1) := by decide +kernel
theorem dX1_draw_20 : decode cX1_draw 20 = .ok (.if_icmp .ne 5, 3) := by decide +kernel
theorem dX1_draw_23 : decode cX1_draw 23 = .ok (.iconst 0, 1) := by decide +kernel
theorem dX1_draw_24 : decode cX1_draw 24 = .ok (.ireturn, 1) := by decide +kernel
theorem dX1_draw_25 : decode cX1_draw 25 = .ok (.aload_n 0, 1) := by decide +kernel
theorem dX1_draw_26 : decode cX1_draw 26 = .ok (.getfield 16, 3) := by decide +kernel
theorem dX1_draw_29 : decode cX1_draw 29 = .ok (.iload_n 1, 1) := by decide +kernel
theorem dX1_draw_30 : decode cX1_draw 30 = .ok (.bipush 16, 2) := by decide +kernel
theorem dX1_draw_32 : decode cX1_draw 32 = .ok (.imul, 1) := by decide +kernel
theorem dX1_draw_33 : decode cX1_draw 33 = .ok (.aload_n 0, 1) := by decide +kernel
theorem dX1_draw_34 : decode cX1_draw 34 = .ok (.getfield 7, 3) := by decide +kernel
theorem dX1_draw_37 : decode cX1_draw 37 = .ok (.iload_n 1, 1) := by decide +kernel
theorem dX1_draw_38 : decode cX1_draw 38 = .ok (.iconst 4, 1) := by decide +kernel
theorem dX1_draw_39 : decode cX1_draw 39 = .ok (.imul, 1) := by decide +kernel
theorem dX1_draw_40 : decode cX1_draw 40 = .ok (.iload_n 2, 1) := by decide +kernel
theorem dX1_draw_41 : decode cX1_draw 41 = .ok (.iadd, 1) := by decide +kernel
theorem dX1_draw_42 : decode cX1_draw 42 = .ok (.iaload, 1) := by decide +kernel
theorem dX1_draw_43 : decode cX1_draw 43 = .ok (.iadd, 1) := by decide +kernel
theorem dX1_draw_44 : decode cX1_draw 44 = .ok (.iconst (-1), 1) := by decide +kernel
theorem dX1_draw_45 : decode cX1_draw 45 = .ok (.iastore, 1) := by decide +kernel
theorem dX1_draw_46 : decode cX1_draw 46 = .ok (.aload_n 0, 1) := by decide +kernel
theorem dX1_draw_47 : decode cX1_draw 47 = .ok (.getfield 7, 3) := by decide +kernel
theorem dX1_draw_50 : decode cX1_draw 50 = .ok (.iload_n 1, 1) := by decide +kernel
theorem dX1_draw_51 : decode cX1_draw 51 = .ok (.iconst 4, 1) := by decide +kernel
theorem dX1_draw_52 : decode cX1_draw 52 = .ok (.imul, 1) := by decide +kernel
theorem dX1_draw_53 : decode cX1_draw 53 = .ok (.iload_n 2, 1) := by decide +kernel
theorem dX1_draw_54 : decode cX1_draw 54 = .ok (.iadd, 1) := by decide +kernel
theorem dX1_draw_55 : decode cX1_draw 55 = .ok (.iconst (-1), 1) := by decide +kernel
theorem dX1_draw_56 : decode cX1_draw 56 = .ok (.iastore, 1) := by decide +kernel
theorem dX1_draw_57 : decode cX1_draw 57 = .ok (.aload_n 0, 1) := by decide +kernel
theorem dX1_draw_58 : decode cX1_draw 58 = .ok (.dup, 1) := by decide +kernel
theorem dX1_draw_59 : decode cX1_draw 59 = .ok (.getfield 50, 3) := by decide +kernel
theorem dX1_draw_62 : decode cX1_draw 62 = .ok (.iconst 1, 1) := by decide +kernel
theorem dX1_draw_63 : decode cX1_draw 63 = .ok (.isub, 1) := by decide +kernel
theorem dX1_draw_64 : decode cX1_draw 64 = .ok (.putfield 50, 3) := by decide +kernel
theorem dX1_draw_67 : decode cX1_draw 67 = .ok (.aload_n 0, 1) := by decide +kernel
theorem dX1_draw_68 : decode cX1_draw 68 = .ok (.iconst 1, 1) := by decide +kernel
theorem dX1_draw_69 : decode cX1_draw 69 = .ok (.putfield 29, 3) := by decide +kernel
theorem dX1_draw_72 : decode cX1_draw 72 = .ok (.iconst 1, 1) := by decide +kernel
theorem dX1_draw_73 : decode cX1_draw 73 = .ok (.ireturn, 1) := by decide +kernel
abbrev cX1_cost : ByteArray := prog_1_method_5_code
def yX1_cost : MethodName := ⟨RX1, "cost", "(III)I"⟩
theorem dX1_cost_0 : decode cX1_cost 0 = .ok (.aload_n 0, 1) := by decide +kernel
theorem dX1_cost_1 : decode cX1_cost 1 = .ok (.iload_n 1, 1) := by decide +kernel
theorem dX1_cost_2 : decode cX1_cost 2 = .ok (.iload_n 2, 1) := by decide +kernel
theorem dX1_cost_3 : decode cX1_cost 3 = .ok (.invokevirtual 46, 3) := by decide +kernel
theorem dX1_cost_6 : decode cX1_cost 6 = .ok (.ifCond .eq 28, 3) := by decide +kernel
theorem dX1_cost_9 : decode cX1_cost 9 = .ok (.aload_n 0, 1) := by decide +kernel
theorem dX1_cost_10 : decode cX1_cost 10 = .ok (.getfield 7, 3) := by decide +kernel
theorem dX1_cost_13 : decode cX1_cost 13 = .ok (.iload_n 1, 1) := by decide +kernel
theorem dX1_cost_14 : decode cX1_cost 14 = .ok (.iconst 4, 1) := by decide +kernel
theorem dX1_cost_15 : decode cX1_cost 15 = .ok (.imul, 1) := by decide +kernel
theorem dX1_cost_16 : decode cX1_cost 16 = .ok (.iload_n 2, 1) := by decide +kernel
theorem dX1_cost_17 : decode cX1_cost 17 = .ok (.iadd, 1) := by decide +kernel
theorem dX1_cost_18 : decode cX1_cost 18 = .ok (.iaload, 1) := by decide +kernel
theorem dX1_cost_19 : decode cX1_cost 19 = .ok (.iconst (-1), 1) := by decide +kernel
theorem dX1_cost_20 : decode cX1_cost 20 = .ok (.if_icmp .eq 14, 3) := by decide +kernel
theorem dX1_cost_23 : decode cX1_cost 23 = .ok (.iload_n 3, 1) := by decide +kernel
theorem dX1_cost_24 : decode cX1_cost 24 = .ok (.iconst 1, 1) := by decide +kernel
theorem dX1_cost_25 : decode cX1_cost 25 = .ok (.if_icmp .lt 9, 3) := by decide +kernel
theorem dX1_cost_28 : decode cX1_cost 28 = .ok (.iload_n 3, 1) := by decide +kernel
theorem dX1_cost_29 : decode cX1_cost 29 = .ok (.bipush 9, 2) := by decide +kernel
theorem dX1_cost_31 : decode cX1_cost 31 = .ok (.if_icmp .le 5, 3) := by decide +kernel
theorem dX1_cost_34 : decode cX1_cost 34 = .ok (.iconst (-1), 1) := by decide +kernel
theorem dX1_cost_35 : decode cX1_cost 35 = .ok (.ireturn, 1) := by decide +kernel
theorem dX1_cost_36 : decode cX1_cost 36 = .ok (.aload_n 0, 1) := by decide +kernel
theorem dX1_cost_37 : decode cX1_cost 37 = .ok (.getfield 13, 3) := by decide +kernel
theorem dX1_cost_40 : decode cX1_cost 40 = .ok (.iload_n 1, 1) := by decide +kernel
theorem dX1_cost_41 : decode cX1_cost 41 = .ok (.iconst 4, 1) := by decide +kernel
theorem dX1_cost_42 : decode cX1_cost 42 = .ok (.imul, 1) := by decide +kernel
theorem dX1_cost_43 : decode cX1_cost 43 = .ok (.iload_n 2, 1) := by decide +kernel
theorem dX1_cost_44 : decode cX1_cost 44 = .ok (.iadd, 1) := by decide +kernel
theorem dX1_cost_45 : decode cX1_cost 45 = .ok (.iaload, 1) := by decide +kernel
theorem dX1_cost_46 : decode cX1_cost 46 = .ok (.istore 4, 2) := by decide +kernel
theorem dX1_cost_48 : decode cX1_cost 48 = .ok (.aload_n 0, 1) := by decide +kernel
theorem dX1_cost_49 : decode cX1_cost 49 = .ok (.getfield 13, 3) := by decide +kernel
theorem dX1_cost_52 : decode cX1_cost 52 = .ok (.iload_n 1, 1) := by decide +kernel
theorem dX1_cost_53 : decode cX1_cost 53 = .ok (.iconst 4, 1) := by decide +kernel
theorem dX1_cost_54 : decode cX1_cost 54 = .ok (.imul, 1) := by decide +kernel
theorem dX1_cost_55 : decode cX1_cost 55 = .ok (.iload_n 2, 1) := by decide +kernel
theorem dX1_cost_56 : decode cX1_cost 56 = .ok (.iadd, 1) := by decide +kernel
theorem dX1_cost_57 : decode cX1_cost 57 = .ok (.iload_n 3, 1) := by decide +kernel
theorem dX1_cost_58 : decode cX1_cost 58 = .ok (.iastore, 1) := by decide +kernel
theorem dX1_cost_59 : decode cX1_cost 59 = .ok (.aload_n 0, 1) := by decide +kernel
theorem dX1_cost_60 : decode cX1_cost 60 = .ok (.iconst 1, 1) := by decide +kernel
theorem dX1_cost_61 : decode cX1_cost 61 = .ok (.putfield 29, 3) := by decide +kernel
theorem dX1_cost_64 : decode cX1_cost 64 = .ok (.iload 4, 2) := by decide +kernel
theorem dX1_cost_66 : decode cX1_cost 66 = .ok (.ireturn, 1) := by decide +kernel
abbrev cX1_cut : ByteArray := prog_1_method_7_code
def yX1_cut : MethodName := ⟨RX1, "cut", "(I)Z"⟩
theorem dX1_cut_0 : decode cX1_cut 0 = .ok (.aload_n 0, 1) := by decide +kernel
theorem dX1_cut_1 : decode cX1_cut 1 = .ok (.iload_n 1, 1) := by decide +kernel
theorem dX1_cut_2 : decode cX1_cut 2 = .ok (.iconst 1, 1) := by decide +kernel
theorem dX1_cut_3 : decode cX1_cut 3 = .ok (.invokevirtual 56, 3) := by decide +kernel
theorem dX1_cut_6 : decode cX1_cut 6 = .ok (.ireturn, 1) := by decide +kernel
abbrev cX1_turn : ByteArray := prog_1_method_6_code
def yX1_turn : MethodName := ⟨RX1, "turn", "(IZ)Z"⟩
theorem dX1_turn_0 : decode cX1_turn 0 = .ok (.iload_n 1, 1) := by decide +kernel
theorem dX1_turn_1 : decode cX1_turn 1 = .ok (.ifCond .lt 19, 3) := by decide +kernel
theorem dX1_turn_4 : decode cX1_turn 4 = .ok (.iload_n 1, 1) := by decide +kernel
theorem dX1_turn_5 : decode cX1_turn 5 = .ok (.bipush 16, 2) := by decide +kernel
theorem dX1_turn_7 : decode cX1_turn 7 = .ok (.if_icmp .ge 13, 3) := by decide +kernel
theorem dX1_turn_10 : decode cX1_turn 10 = .ok (.aload_n 0, 1) := by decide +kernel
theorem dX1_turn_11 : decode cX1_turn 11 = .ok (.getfield 19, 3) := by decide +kernel
theorem dX1_turn_14 : decode cX1_turn 14 = .ok (.iload_n 1, 1) := by decide +kernel
theorem dX1_turn_15 : decode cX1_turn 15 = .ok (.baload, 1) := by decide +kernel
theorem dX1_turn_16 : decode cX1_turn 16 = .ok (.iload_n 2, 1) := by decide +kernel
theorem dX1_turn_17 : decode cX1_turn 17 = .ok (.if_icmp .ne 5, 3) := by decide +kernel
theorem dX1_turn_20 : decode cX1_turn 20 = .ok (.iconst 0, 1) := by decide +kernel
theorem dX1_turn_21 : decode cX1_turn 21 = .ok (.ireturn, 1) := by decide +kernel
theorem dX1_turn_22 : decode cX1_turn 22 = .ok (.aload_n 0, 1) := by decide +kernel
theorem dX1_turn_23 : decode cX1_turn 23 = .ok (.getfield 19, 3) := by decide +kernel
theorem dX1_turn_26 : decode cX1_turn 26 = .ok (.iload_n 1, 1) := by decide +kernel
theorem dX1_turn_27 : decode cX1_turn 27 = .ok (.iload_n 2, 1) := by decide +kernel
theorem dX1_turn_28 : decode cX1_turn 28 = .ok (.bastore, 1) := by decide +kernel
theorem dX1_turn_29 : decode cX1_turn 29 = .ok (.aload_n 0, 1) := by decide +kernel
theorem dX1_turn_30 : decode cX1_turn 30 = .ok (.dup, 1) := by decide +kernel
theorem dX1_turn_31 : decode cX1_turn 31 = .ok (.getfield 53, 3) := by decide +kernel
theorem dX1_turn_34 : decode cX1_turn 34 = .ok (.iload_n 2, 1) := by decide +kernel
theorem dX1_turn_35 : decode cX1_turn 35 = .ok (.ifCond .eq 7, 3) := by decide +kernel
theorem dX1_turn_38 : decode cX1_turn 38 = .ok (.iconst 1, 1) := by decide +kernel
theorem dX1_turn_39 : decode cX1_turn 39 = .ok (.goto 4, 3) := by decide +kernel
theorem dX1_turn_42 : decode cX1_turn 42 = .ok (.iconst (-1), 1) := by decide +kernel
theorem dX1_turn_43 : decode cX1_turn 43 = .ok (.iadd, 1) := by decide +kernel
theorem dX1_turn_44 : decode cX1_turn 44 = .ok (.putfield 53, 3) := by decide +kernel
theorem dX1_turn_47 : decode cX1_turn 47 = .ok (.aload_n 0, 1) := by decide +kernel
theorem dX1_turn_48 : decode cX1_turn 48 = .ok (.iconst 1, 1) := by decide +kernel
theorem dX1_turn_49 : decode cX1_turn 49 = .ok (.putfield 29, 3) := by decide +kernel
theorem dX1_turn_52 : decode cX1_turn 52 = .ok (.iconst 1, 1) := by decide +kernel
theorem dX1_turn_53 : decode cX1_turn 53 = .ok (.ireturn, 1) := by decide +kernel
abbrev cX1_mend : ByteArray := prog_1_method_8_code
def yX1_mend : MethodName := ⟨RX1, "mend", "(I)Z"⟩
theorem dX1_mend_0 : decode cX1_mend 0 = .ok (.aload_n 0, 1) := by decide +kernel
theorem dX1_mend_1 : decode cX1_mend 1 = .ok (.iload_n 1, 1) := by decide +kernel
theorem dX1_mend_2 : decode cX1_mend 2 = .ok (.iconst 0, 1) := by decide +kernel
theorem dX1_mend_3 : decode cX1_mend 3 = .ok (.invokevirtual 56, 3) := by decide +kernel
theorem dX1_mend_6 : decode cX1_mend 6 = .ok (.ireturn, 1) := by decide +kernel
abbrev cX1_far : ByteArray := prog_1_method_15_code
def yX1_far : MethodName := ⟨RX1, "far", "(IZI)I"⟩
theorem dX1_far_0 : decode cX1_far 0 = .ok (.aload_n 0, 1) := by decide +kernel
theorem dX1_far_1 : decode cX1_far 1 = .ok (.iload_n 1, 1) := by decide +kernel
theorem dX1_far_2 : decode cX1_far 2 = .ok (.iload_n 2, 1) := by decide +kernel
theorem dX1_far_3 : decode cX1_far 3 = .ok (.iload_n 3, 1) := by decide +kernel
theorem dX1_far_4 : decode cX1_far 4 = .ok (.invokevirtual 76, 3) := by decide +kernel
theorem dX1_far_7 : decode cX1_far 7 = .ok (.istore 4, 2) := by decide +kernel
theorem dX1_far_9 : decode cX1_far 9 = .ok (.iload 4, 2) := by decide +kernel
theorem dX1_far_11 : decode cX1_far 11 = .ok (.iconst (-1), 1) := by decide +kernel
theorem dX1_far_12 : decode cX1_far 12 = .ok (.if_icmp .eq 16, 3) := by decide +kernel
theorem dX1_far_15 : decode cX1_far 15 = .ok (.aload_n 0, 1) := by decide +kernel
theorem dX1_far_16 : decode cX1_far 16 = .ok (.getfield 23, 3) := by decide +kernel
theorem dX1_far_19 : decode cX1_far 19 = .ok (.iload 4, 2) := by decide +kernel
theorem dX1_far_21 : decode cX1_far 21 = .ok (.iaload, 1) := by decide +kernel
theorem dX1_far_22 : decode cX1_far 22 = .ok (.sipush 9999, 3) := by decide +kernel
theorem dX1_far_25 : decode cX1_far 25 = .ok (.if_icmp .ne 7, 3) := by decide +kernel
theorem dX1_far_28 : decode cX1_far 28 = .ok (.iconst (-1), 1) := by decide +kernel
theorem dX1_far_29 : decode cX1_far 29 = .ok (.goto 10, 3) := by decide +kernel
theorem dX1_far_32 : decode cX1_far 32 = .ok (.aload_n 0, 1) := by decide +kernel
theorem dX1_far_33 : decode cX1_far 33 = .ok (.getfield 23, 3) := by decide +kernel
theorem dX1_far_36 : decode cX1_far 36 = .ok (.iload 4, 2) := by decide +kernel
theorem dX1_far_38 : decode cX1_far 38 = .ok (.iaload, 1) := by decide +kernel
theorem dX1_far_39 : decode cX1_far 39 = .ok (.ireturn, 1) := by decide +kernel
abbrev cX1_spot : ByteArray := prog_1_method_14_code
def yX1_spot : MethodName := ⟨RX1, "spot", "(IZI)I"⟩
theorem dX1_spot_0 : decode cX1_spot 0 = .ok (.iload_n 2, 1) := by decide +kernel
theorem dX1_spot_1 : decode cX1_spot 1 = .ok (.ifCond .eq 8, 3) := by decide +kernel
theorem dX1_spot_4 : decode cX1_spot 4 = .ok (.bipush 16, 2) := by decide +kernel
theorem dX1_spot_6 : decode cX1_spot 6 = .ok (.goto 7, 3) := by decide +kernel
theorem dX1_spot_9 : decode cX1_spot 9 = .ok (.aload_n 0, 1) := by decide +kernel
theorem dX1_spot_10 : decode cX1_spot 10 = .ok (.getfield 42, 3) := by decide +kernel
theorem dX1_spot_13 : decode cX1_spot 13 = .ok (.istore 4, 2) := by decide +kernel
theorem dX1_spot_15 : decode cX1_spot 15 = .ok (.iload_n 1, 1) := by decide +kernel
theorem dX1_spot_16 : decode cX1_spot 16 = .ok (.ifCond .lt 21, 3) := by decide +kernel
theorem dX1_spot_19 : decode cX1_spot 19 = .ok (.iload_n 1, 1) := by decide +kernel
theorem dX1_spot_20 : decode cX1_spot 20 = .ok (.aload_n 0, 1) := by decide +kernel
theorem dX1_spot_21 : decode cX1_spot 21 = .ok (.getfield 42, 3) := by decide +kernel
theorem dX1_spot_24 : decode cX1_spot 24 = .ok (.if_icmp .ge 13, 3) := by decide +kernel
theorem dX1_spot_27 : decode cX1_spot 27 = .ok (.iload_n 3, 1) := by decide +kernel
theorem dX1_spot_28 : decode cX1_spot 28 = .ok (.ifCond .lt 9, 3) := by decide +kernel
theorem dX1_spot_31 : decode cX1_spot 31 = .ok (.iload_n 3, 1) := by decide +kernel
theorem dX1_spot_32 : decode cX1_spot 32 = .ok (.iload 4, 2) := by decide +kernel
theorem dX1_spot_34 : decode cX1_spot 34 = .ok (.if_icmp .lt 5, 3) := by decide +kernel
theorem dX1_spot_37 : decode cX1_spot 37 = .ok (.iconst (-1), 1) := by decide +kernel
theorem dX1_spot_38 : decode cX1_spot 38 = .ok (.ireturn, 1) := by decide +kernel
theorem dX1_spot_39 : decode cX1_spot 39 = .ok (.aload_n 0, 1) := by decide +kernel
theorem dX1_spot_40 : decode cX1_spot 40 = .ok (.invokevirtual 73, 3) := by decide +kernel
theorem dX1_spot_43 : decode cX1_spot 43 = .ok (.iload_n 1, 1) := by decide +kernel
theorem dX1_spot_44 : decode cX1_spot 44 = .ok (.bipush 26, 2) := by decide +kernel
theorem dX1_spot_46 : decode cX1_spot 46 = .ok (.imul, 1) := by decide +kernel
theorem dX1_spot_47 : decode cX1_spot 47 = .ok (.iload_n 2, 1) := by decide +kernel
theorem dX1_spot_48 : decode cX1_spot 48 = .ok (.ifCond .eq 10, 3) := by decide +kernel
theorem dX1_spot_51 : decode cX1_spot 51 = .ok (.bipush 10, 2) := by decide +kernel
theorem dX1_spot_53 : decode cX1_spot 53 = .ok (.iload_n 3, 1) := by decide +kernel
theorem dX1_spot_54 : decode cX1_spot 54 = .ok (.iadd, 1) := by decide +kernel
theorem dX1_spot_55 : decode cX1_spot 55 = .ok (.goto 4, 3) := by decide +kernel
theorem dX1_spot_58 : decode cX1_spot 58 = .ok (.iload_n 3, 1) := by decide +kernel
theorem dX1_spot_59 : decode cX1_spot 59 = .ok (.iadd, 1) := by decide +kernel
theorem dX1_spot_60 : decode cX1_spot 60 = .ok (.ireturn, 1) := by decide +kernel
abbrev cX1_reckon : ByteArray := prog_1_method_13_code
def yX1_reckon : MethodName := ⟨RX1, "reckon", "()V"⟩
theorem dX1_reckon_0 : decode cX1_reckon 0 = .ok (.aload_n 0, 1) := by decide +kernel
theorem dX1_reckon_1 : decode cX1_reckon 1 = .ok (.getfield 29, 3) := by decide +kernel
theorem dX1_reckon_4 : decode cX1_reckon 4 = .ok (.ifCond .ne 4, 3) := by decide +kernel
theorem dX1_reckon_7 : decode cX1_reckon 7 = .ok (.return_, 1) := by decide +kernel
theorem dX1_reckon_8 : decode cX1_reckon 8 = .ok (.aload_n 0, 1) := by decide +kernel
theorem dX1_reckon_9 : decode cX1_reckon 9 = .ok (.iconst 0, 1) := by decide +kernel
theorem dX1_reckon_10 : decode cX1_reckon 10 = .ok (.putfield 29, 3) := by decide +kernel
theorem dX1_reckon_13 : decode cX1_reckon 13 = .ok (.iconst 0, 1) := by decide +kernel
theorem dX1_reckon_14 : decode cX1_reckon 14 = .ok (.istore_n 1, 1) := by decide +kernel
theorem dX1_reckon_15 : decode cX1_reckon 15 = .ok (.iload_n 1, 1) := by decide +kernel
theorem dX1_reckon_16 : decode cX1_reckon 16 = .ok (.aload_n 0, 1) := by decide +kernel
theorem dX1_reckon_17 : decode cX1_reckon 17 = .ok (.getfield 42, 3) := by decide +kernel
theorem dX1_reckon_20 : decode cX1_reckon 20 = .ok (.if_icmp .ge 56, 3) := by decide +kernel
theorem dX1_reckon_23 : decode cX1_reckon 23 = .ok (.iconst 0, 1) := by decide +kernel
theorem dX1_reckon_24 : decode cX1_reckon 24 = .ok (.istore_n 2, 1) := by decide +kernel
theorem dX1_reckon_25 : decode cX1_reckon 25 = .ok (.iload_n 2, 1) := by decide +kernel
theorem dX1_reckon_26 : decode cX1_reckon 26 = .ok (.bipush 26, 2) := by decide +kernel
theorem dX1_reckon_28 : decode cX1_reckon 28 = .ok (.if_icmp .ge 42, 3) := by decide +kernel
theorem dX1_reckon_31 : decode cX1_reckon 31 = .ok (.aload_n 0, 1) := by decide +kernel
theorem dX1_reckon_32 : decode cX1_reckon 32 = .ok (.getfield 23, 3) := by decide +kernel
theorem dX1_reckon_35 : decode cX1_reckon 35 = .ok (.iload_n 1, 1) := by decide +kernel
theorem dX1_reckon_36 : decode cX1_reckon 36 = .ok (.bipush 26, 2) := by decide +kernel
theorem dX1_reckon_38 : decode cX1_reckon 38 = .ok (.imul, 1) := by decide +kernel
theorem dX1_reckon_39 : decode cX1_reckon 39 = .ok (.iload_n 2, 1) := by decide +kernel
theorem dX1_reckon_40 : decode cX1_reckon 40 = .ok (.iadd, 1) := by decide +kernel
theorem dX1_reckon_41 : decode cX1_reckon 41 = .ok (.iload_n 2, 1) := by decide +kernel
theorem dX1_reckon_42 : decode cX1_reckon 42 = .ok (.iload_n 1, 1) := by decide +kernel
theorem dX1_reckon_43 : decode cX1_reckon 43 = .ok (.if_icmp .eq 13, 3) := by decide +kernel
theorem dX1_reckon_46 : decode cX1_reckon 46 = .ok (.aload_n 0, 1) := by decide +kernel
theorem dX1_reckon_47 : decode cX1_reckon 47 = .ok (.iload_n 1, 1) := by decide +kernel
theorem dX1_reckon_48 : decode cX1_reckon 48 = .ok (.iload_n 2, 1) := by decide +kernel
theorem dX1_reckon_49 : decode cX1_reckon 49 = .ok (.invokevirtual 63, 3) := by decide +kernel
theorem dX1_reckon_52 : decode cX1_reckon 52 = .ok (.iconst (-1), 1) := by decide +kernel
theorem dX1_reckon_53 : decode cX1_reckon 53 = .ok (.if_icmp .eq 7, 3) := by decide +kernel
theorem dX1_reckon_56 : decode cX1_reckon 56 = .ok (.iconst 0, 1) := by decide +kernel
theorem dX1_reckon_57 : decode cX1_reckon 57 = .ok (.goto 6, 3) := by decide +kernel
theorem dX1_reckon_60 : decode cX1_reckon 60 = .ok (.sipush 9999, 3) := by decide +kernel
theorem dX1_reckon_63 : decode cX1_reckon 63 = .ok (.iastore, 1) := by decide +kernel
theorem dX1_reckon_64 : decode cX1_reckon 64 = .ok (.iinc 2 1, 3) := by decide +kernel
theorem dX1_reckon_67 : decode cX1_reckon 67 = .ok (.goto (-42), 3) := by decide +kernel
theorem dX1_reckon_70 : decode cX1_reckon 70 = .ok (.iinc 1 1, 3) := by decide +kernel
theorem dX1_reckon_73 : decode cX1_reckon 73 = .ok (.goto (-58), 3) := by decide +kernel
theorem dX1_reckon_76 : decode cX1_reckon 76 = .ok (.iconst 1, 1) := by decide +kernel
theorem dX1_reckon_77 : decode cX1_reckon 77 = .ok (.istore_n 1, 1) := by decide +kernel
theorem dX1_reckon_78 : decode cX1_reckon 78 = .ok (.iload_n 1, 1) := by decide +kernel
theorem dX1_reckon_79 : decode cX1_reckon 79 = .ok (.ifCond .eq 32, 3) := by decide +kernel
theorem dX1_reckon_82 : decode cX1_reckon 82 = .ok (.iconst 0, 1) := by decide +kernel
theorem dX1_reckon_83 : decode cX1_reckon 83 = .ok (.istore_n 1, 1) := by decide +kernel
theorem dX1_reckon_84 : decode cX1_reckon 84 = .ok (.iconst 0, 1) := by decide +kernel
theorem dX1_reckon_85 : decode cX1_reckon 85 = .ok (.istore_n 2, 1) := by decide +kernel
theorem dX1_reckon_86 : decode cX1_reckon 86 = .ok (.iload_n 2, 1) := by decide +kernel
theorem dX1_reckon_87 : decode cX1_reckon 87 = .ok (.aload_n 0, 1) := by decide +kernel
theorem dX1_reckon_88 : decode cX1_reckon 88 = .ok (.getfield 42, 3) := by decide +kernel
theorem dX1_reckon_91 : decode cX1_reckon 91 = .ok (.if_icmp .ge 17, 3) := by decide +kernel
theorem dX1_reckon_94 : decode cX1_reckon 94 = .ok (.iload_n 1, 1) := by decide +kernel
theorem dX1_reckon_95 : decode cX1_reckon 95 = .ok (.aload_n 0, 1) := by decide +kernel
theorem dX1_reckon_96 : decode cX1_reckon 96 = .ok (.iload_n 2, 1) := by decide +kernel
theorem dX1_reckon_97 : decode cX1_reckon 97 = .ok (.invokevirtual 66, 3) := by decide +kernel
theorem dX1_reckon_100 : decode cX1_reckon 100 = .ok (.ior, 1) := by decide +kernel
theorem dX1_reckon_101 : decode cX1_reckon 101 = .ok (.istore_n 1, 1) := by decide +kernel
theorem dX1_reckon_102 : decode cX1_reckon 102 = .ok (.iinc 2 1, 3) := by decide +kernel
theorem dX1_reckon_105 : decode cX1_reckon 105 = .ok (.goto (-19), 3) := by decide +kernel
theorem dX1_reckon_108 : decode cX1_reckon 108 = .ok (.goto (-30), 3) := by decide +kernel
theorem dX1_reckon_111 : decode cX1_reckon 111 = .ok (.iconst 0, 1) := by decide +kernel
theorem dX1_reckon_112 : decode cX1_reckon 112 = .ok (.istore_n 2, 1) := by decide +kernel
theorem dX1_reckon_113 : decode cX1_reckon 113 = .ok (.iload_n 2, 1) := by decide +kernel
theorem dX1_reckon_114 : decode cX1_reckon 114 = .ok (.aload_n 0, 1) := by decide +kernel
theorem dX1_reckon_115 : decode cX1_reckon 115 = .ok (.getfield 42, 3) := by decide +kernel
theorem dX1_reckon_118 : decode cX1_reckon 118 = .ok (.if_icmp .ge 74, 3) := by decide +kernel
theorem dX1_reckon_121 : decode cX1_reckon 121 = .ok (.iconst 0, 1) := by decide +kernel
theorem dX1_reckon_122 : decode cX1_reckon 122 = .ok (.istore_n 3, 1) := by decide +kernel
theorem dX1_reckon_123 : decode cX1_reckon 123 = .ok (.iload_n 3, 1) := by decide +kernel
theorem dX1_reckon_124 : decode cX1_reckon 124 = .ok (.bipush 26, 2) := by decide +kernel
theorem dX1_reckon_126 : decode cX1_reckon 126 = .ok (.if_icmp .ge 60, 3) := by decide +kernel
theorem dX1_reckon_129 : decode cX1_reckon 129 = .ok (.aload_n 0, 1) := by decide +kernel
theorem dX1_reckon_130 : decode cX1_reckon 130 = .ok (.iload_n 2, 1) := by decide +kernel
theorem dX1_reckon_131 : decode cX1_reckon 131 = .ok (.iload_n 3, 1) := by decide +kernel
theorem dX1_reckon_132 : decode cX1_reckon 132 = .ok (.invokevirtual 63, 3) := by decide +kernel
theorem dX1_reckon_135 : decode cX1_reckon 135 = .ok (.istore 4, 2) := by decide +kernel
theorem dX1_reckon_137 : decode cX1_reckon 137 = .ok (.aload_n 0, 1) := by decide +kernel
theorem dX1_reckon_138 : decode cX1_reckon 138 = .ok (.getfield 26, 3) := by decide +kernel
theorem dX1_reckon_141 : decode cX1_reckon 141 = .ok (.iload_n 2, 1) := by decide +kernel
theorem dX1_reckon_142 : decode cX1_reckon 142 = .ok (.bipush 26, 2) := by decide +kernel
theorem dX1_reckon_144 : decode cX1_reckon 144 = .ok (.imul, 1) := by decide +kernel
theorem dX1_reckon_145 : decode cX1_reckon 145 = .ok (.iload_n 3, 1) := by decide +kernel
theorem dX1_reckon_146 : decode cX1_reckon 146 = .ok (.iadd, 1) := by decide +kernel
theorem dX1_reckon_147 : decode cX1_reckon 147 = .ok (.iload_n 3, 1) := by decide +kernel
theorem dX1_reckon_148 : decode cX1_reckon 148 = .ok (.iload_n 2, 1) := by decide +kernel
theorem dX1_reckon_149 : decode cX1_reckon 149 = .ok (.if_icmp .ne 7, 3) := by decide +kernel
theorem dX1_reckon_152 : decode cX1_reckon 152 = .ok (.iconst (-1), 1) := by decide +kernel
theorem dX1_reckon_153 : decode cX1_reckon 153 = .ok (.goto 26, 3) := by decide +kernel
theorem dX1_reckon_156 : decode cX1_reckon 156 = .ok (.iload 4, 2) := by decide +kernel
theorem dX1_reckon_158 : decode cX1_reckon 158 = .ok (.iconst (-1), 1) := by decide +kernel
theorem dX1_reckon_159 : decode cX1_reckon 159 = .ok (.if_icmp .eq 14, 3) := by decide +kernel
theorem dX1_reckon_162 : decode cX1_reckon 162 = .ok (.bipush 16, 2) := by decide +kernel
theorem dX1_reckon_164 : decode cX1_reckon 164 = .ok (.iload 4, 2) := by decide +kernel
theorem dX1_reckon_166 : decode cX1_reckon 166 = .ok (.imul, 1) := by decide +kernel
theorem dX1_reckon_167 : decode cX1_reckon 167 = .ok (.bipush 15, 2) := by decide +kernel
theorem dX1_reckon_169 : decode cX1_reckon 169 = .ok (.iadd, 1) := by decide +kernel
theorem dX1_reckon_170 : decode cX1_reckon 170 = .ok (.goto 9, 3) := by decide +kernel
theorem dX1_reckon_173 : decode cX1_reckon 173 = .ok (.aload_n 0, 1) := by decide +kernel
theorem dX1_reckon_174 : decode cX1_reckon 174 = .ok (.iload_n 2, 1) := by decide +kernel
theorem dX1_reckon_175 : decode cX1_reckon 175 = .ok (.iload_n 3, 1) := by decide +kernel
theorem dX1_reckon_176 : decode cX1_reckon 176 = .ok (.invokevirtual 70, 3) := by decide +kernel
theorem dX1_reckon_179 : decode cX1_reckon 179 = .ok (.iastore, 1) := by decide +kernel
theorem dX1_reckon_180 : decode cX1_reckon 180 = .ok (.iinc 3 1, 3) := by decide +kernel
theorem dX1_reckon_183 : decode cX1_reckon 183 = .ok (.goto (-60), 3) := by decide +kernel
theorem dX1_reckon_186 : decode cX1_reckon 186 = .ok (.iinc 2 1, 3) := by decide +kernel
theorem dX1_reckon_189 : decode cX1_reckon 189 = .ok (.goto (-76), 3) := by decide +kernel
theorem dX1_reckon_192 : decode cX1_reckon 192 = .ok (.return_, 1) := by decide +kernel
end
section
set_option maxRecDepth 100000
abbrev cX1_direct : ByteArray := prog_1_method_9_code
def yX1_direct : MethodName := ⟨RX1, "direct", "(II)I"⟩
theorem dX1_direct_0 : decode cX1_direct 0 = .ok (.iload_n 2, 1) := by decide +kernel
theorem dX1_direct_1 : decode cX1_direct 1 = .ok (.bipush 10, 2) := by decide +kernel
theorem dX1_direct_3 : decode cX1_direct 3 = .ok (.isub, 1) := by decide +kernel
theorem dX1_direct_4 : decode cX1_direct 4 = .ok (.istore_n 3, 1) := by decide +kernel
theorem dX1_direct_5 : decode cX1_direct 5 = .ok (.iload_n 3, 1) := by decide +kernel
theorem dX1_direct_6 : decode cX1_direct 6 = .ok (.ifCond .lt 26, 3) := by decide +kernel
theorem dX1_direct_9 : decode cX1_direct 9 = .ok (.aload_n 0, 1) := by decide +kernel
theorem dX1_direct_10 : decode cX1_direct 10 = .ok (.getfield 19, 3) := by decide +kernel
theorem dX1_direct_13 : decode cX1_direct 13 = .ok (.iload_n 3, 1) := by decide +kernel
theorem dX1_direct_14 : decode cX1_direct 14 = .ok (.baload, 1) := by decide +kernel
theorem dX1_direct_15 : decode cX1_direct 15 = .ok (.ifCond .ne 17, 3) := by decide +kernel
theorem dX1_direct_18 : decode cX1_direct 18 = .ok (.aload_n 0, 1) := by decide +kernel
theorem dX1_direct_19 : decode cX1_direct 19 = .ok (.getfield 16, 3) := by decide +kernel
theorem dX1_direct_22 : decode cX1_direct 22 = .ok (.iload_n 1, 1) := by decide +kernel
theorem dX1_direct_23 : decode cX1_direct 23 = .ok (.bipush 16, 2) := by decide +kernel
theorem dX1_direct_25 : decode cX1_direct 25 = .ok (.imul, 1) := by decide +kernel
theorem dX1_direct_26 : decode cX1_direct 26 = .ok (.iload_n 3, 1) := by decide +kernel
theorem dX1_direct_27 : decode cX1_direct 27 = .ok (.iadd, 1) := by decide +kernel
theorem dX1_direct_28 : decode cX1_direct 28 = .ok (.iaload, 1) := by decide +kernel
theorem dX1_direct_29 : decode cX1_direct 29 = .ok (.goto 4, 3) := by decide +kernel
theorem dX1_direct_32 : decode cX1_direct 32 = .ok (.iconst (-1), 1) := by decide +kernel
theorem dX1_direct_33 : decode cX1_direct 33 = .ok (.ireturn, 1) := by decide +kernel
abbrev cX1_better : ByteArray := prog_1_method_11_code
def yX1_better : MethodName := ⟨RX1, "better", "(I)Z"⟩
theorem dX1_better_0 : decode cX1_better 0 = .ok (.iconst 0, 1) := by decide +kernel
theorem dX1_better_1 : decode cX1_better 1 = .ok (.istore_n 2, 1) := by decide +kernel
theorem dX1_better_2 : decode cX1_better 2 = .ok (.iconst 0, 1) := by decide +kernel
theorem dX1_better_3 : decode cX1_better 3 = .ok (.istore_n 3, 1) := by decide +kernel
theorem dX1_better_4 : decode cX1_better 4 = .ok (.iload_n 3, 1) := by decide +kernel
theorem dX1_better_5 : decode cX1_better 5 = .ok (.iconst 4, 1) := by decide +kernel
theorem dX1_better_6 : decode cX1_better 6 = .ok (.if_icmp .ge 152, 3) := by decide +kernel
theorem dX1_better_9 : decode cX1_better 9 = .ok (.aload_n 0, 1) := by decide +kernel
theorem dX1_better_10 : decode cX1_better 10 = .ok (.iload_n 1, 1) := by decide +kernel
theorem dX1_better_11 : decode cX1_better 11 = .ok (.iload_n 3, 1) := by decide +kernel
theorem dX1_better_12 : decode cX1_better 12 = .ok (.invokevirtual 60, 3) := by decide +kernel
theorem dX1_better_15 : decode cX1_better 15 = .ok (.ifCond .ne 6, 3) := by decide +kernel
theorem dX1_better_18 : decode cX1_better 18 = .ok (.goto 134, 3) := by decide +kernel
theorem dX1_better_21 : decode cX1_better 21 = .ok (.aload_n 0, 1) := by decide +kernel
theorem dX1_better_22 : decode cX1_better 22 = .ok (.getfield 7, 3) := by decide +kernel
theorem dX1_better_25 : decode cX1_better 25 = .ok (.iload_n 1, 1) := by decide +kernel
theorem dX1_better_26 : decode cX1_better 26 = .ok (.iconst 4, 1) := by decide +kernel
theorem dX1_better_27 : decode cX1_better 27 = .ok (.imul, 1) := by decide +kernel
theorem dX1_better_28 : decode cX1_better 28 = .ok (.iload_n 3, 1) := by decide +kernel
theorem dX1_better_29 : decode cX1_better 29 = .ok (.iadd, 1) := by decide +kernel
theorem dX1_better_30 : decode cX1_better 30 = .ok (.iaload, 1) := by decide +kernel
theorem dX1_better_31 : decode cX1_better 31 = .ok (.istore 4, 2) := by decide +kernel
theorem dX1_better_33 : decode cX1_better 33 = .ok (.iconst 0, 1) := by decide +kernel
theorem dX1_better_34 : decode cX1_better 34 = .ok (.istore 5, 2) := by decide +kernel
theorem dX1_better_36 : decode cX1_better 36 = .ok (.iload 5, 2) := by decide +kernel
theorem dX1_better_38 : decode cX1_better 38 = .ok (.aload_n 0, 1) := by decide +kernel
theorem dX1_better_39 : decode cX1_better 39 = .ok (.getfield 42, 3) := by decide +kernel
theorem dX1_better_42 : decode cX1_better 42 = .ok (.if_icmp .ge 110, 3) := by decide +kernel
theorem dX1_better_45 : decode cX1_better 45 = .ok (.iload 5, 2) := by decide +kernel
theorem dX1_better_47 : decode cX1_better 47 = .ok (.iload_n 1, 1) := by decide +kernel
theorem dX1_better_48 : decode cX1_better 48 = .ok (.if_icmp .eq 98, 3) := by decide +kernel
theorem dX1_better_51 : decode cX1_better 51 = .ok (.aload_n 0, 1) := by decide +kernel
theorem dX1_better_52 : decode cX1_better 52 = .ok (.getfield 16, 3) := by decide +kernel
theorem dX1_better_55 : decode cX1_better 55 = .ok (.iload 5, 2) := by decide +kernel
theorem dX1_better_57 : decode cX1_better 57 = .ok (.bipush 16, 2) := by decide +kernel
theorem dX1_better_59 : decode cX1_better 59 = .ok (.imul, 1) := by decide +kernel
theorem dX1_better_60 : decode cX1_better 60 = .ok (.iload 4, 2) := by decide +kernel
theorem dX1_better_62 : decode cX1_better 62 = .ok (.iadd, 1) := by decide +kernel
theorem dX1_better_63 : decode cX1_better 63 = .ok (.iaload, 1) := by decide +kernel
theorem dX1_better_64 : decode cX1_better 64 = .ok (.iconst (-1), 1) := by decide +kernel
theorem dX1_better_65 : decode cX1_better 65 = .ok (.if_icmp .ne 6, 3) := by decide +kernel
theorem dX1_better_68 : decode cX1_better 68 = .ok (.goto 78, 3) := by decide +kernel
theorem dX1_better_71 : decode cX1_better 71 = .ok (.iconst 0, 1) := by decide +kernel
theorem dX1_better_72 : decode cX1_better 72 = .ok (.istore 6, 2) := by decide +kernel
theorem dX1_better_74 : decode cX1_better 74 = .ok (.iload 6, 2) := by decide +kernel
theorem dX1_better_76 : decode cX1_better 76 = .ok (.bipush 26, 2) := by decide +kernel
theorem dX1_better_78 : decode cX1_better 78 = .ok (.if_icmp .ge 68, 3) := by decide +kernel
theorem dX1_better_81 : decode cX1_better 81 = .ok (.aload_n 0, 1) := by decide +kernel
theorem dX1_better_82 : decode cX1_better 82 = .ok (.getfield 13, 3) := by decide +kernel
theorem dX1_better_85 : decode cX1_better 85 = .ok (.iload_n 1, 1) := by decide +kernel
theorem dX1_better_86 : decode cX1_better 86 = .ok (.iconst 4, 1) := by decide +kernel
theorem dX1_better_87 : decode cX1_better 87 = .ok (.imul, 1) := by decide +kernel
theorem dX1_better_88 : decode cX1_better 88 = .ok (.iload_n 3, 1) := by decide +kernel
theorem dX1_better_89 : decode cX1_better 89 = .ok (.iadd, 1) := by decide +kernel
theorem dX1_better_90 : decode cX1_better 90 = .ok (.iaload, 1) := by decide +kernel
theorem dX1_better_91 : decode cX1_better 91 = .ok (.aload_n 0, 1) := by decide +kernel
theorem dX1_better_92 : decode cX1_better 92 = .ok (.getfield 23, 3) := by decide +kernel
theorem dX1_better_95 : decode cX1_better 95 = .ok (.iload 5, 2) := by decide +kernel
theorem dX1_better_97 : decode cX1_better 97 = .ok (.bipush 26, 2) := by decide +kernel
theorem dX1_better_99 : decode cX1_better 99 = .ok (.imul, 1) := by decide +kernel
theorem dX1_better_100 : decode cX1_better 100 = .ok (.iload 6, 2) := by decide +kernel
theorem dX1_better_102 : decode cX1_better 102 = .ok (.iadd, 1) := by decide +kernel
theorem dX1_better_103 : decode cX1_better 103 = .ok (.iaload, 1) := by decide +kernel
theorem dX1_better_104 : decode cX1_better 104 = .ok (.iadd, 1) := by decide +kernel
theorem dX1_better_105 : decode cX1_better 105 = .ok (.istore 7, 2) := by decide +kernel
theorem dX1_better_107 : decode cX1_better 107 = .ok (.iload 7, 2) := by decide +kernel
theorem dX1_better_109 : decode cX1_better 109 = .ok (.aload_n 0, 1) := by decide +kernel
theorem dX1_better_110 : decode cX1_better 110 = .ok (.getfield 23, 3) := by decide +kernel
theorem dX1_better_113 : decode cX1_better 113 = .ok (.iload_n 1, 1) := by decide +kernel
theorem dX1_better_114 : decode cX1_better 114 = .ok (.bipush 26, 2) := by decide +kernel
theorem dX1_better_116 : decode cX1_better 116 = .ok (.imul, 1) := by decide +kernel
theorem dX1_better_117 : decode cX1_better 117 = .ok (.iload 6, 2) := by decide +kernel
theorem dX1_better_119 : decode cX1_better 119 = .ok (.iadd, 1) := by decide +kernel
theorem dX1_better_120 : decode cX1_better 120 = .ok (.iaload, 1) := by decide +kernel
theorem dX1_better_121 : decode cX1_better 121 = .ok (.if_icmp .ge 19, 3) := by decide +kernel
theorem dX1_better_124 : decode cX1_better 124 = .ok (.aload_n 0, 1) := by decide +kernel
theorem dX1_better_125 : decode cX1_better 125 = .ok (.getfield 23, 3) := by decide +kernel
theorem dX1_better_128 : decode cX1_better 128 = .ok (.iload_n 1, 1) := by decide +kernel
theorem dX1_better_129 : decode cX1_better 129 = .ok (.bipush 26, 2) := by decide +kernel
theorem dX1_better_131 : decode cX1_better 131 = .ok (.imul, 1) := by decide +kernel
theorem dX1_better_132 : decode cX1_better 132 = .ok (.iload 6, 2) := by decide +kernel
theorem dX1_better_134 : decode cX1_better 134 = .ok (.iadd, 1) := by decide +kernel
theorem dX1_better_135 : decode cX1_better 135 = .ok (.iload 7, 2) := by decide +kernel
theorem dX1_better_137 : decode cX1_better 137 = .ok (.iastore, 1) := by decide +kernel
theorem dX1_better_138 : decode cX1_better 138 = .ok (.iconst 1, 1) := by decide +kernel
theorem dX1_better_139 : decode cX1_better 139 = .ok (.istore_n 2, 1) := by decide +kernel
theorem dX1_better_140 : decode cX1_better 140 = .ok (.iinc 6 1, 3) := by decide +kernel
theorem dX1_better_143 : decode cX1_better 143 = .ok (.goto (-69), 3) := by decide +kernel
theorem dX1_better_146 : decode cX1_better 146 = .ok (.iinc 5 1, 3) := by decide +kernel
theorem dX1_better_149 : decode cX1_better 149 = .ok (.goto (-113), 3) := by decide +kernel
theorem dX1_better_152 : decode cX1_better 152 = .ok (.iinc 3 1, 3) := by decide +kernel
theorem dX1_better_155 : decode cX1_better 155 = .ok (.goto (-151), 3) := by decide +kernel
theorem dX1_better_158 : decode cX1_better 158 = .ok (.iload_n 2, 1) := by decide +kernel
theorem dX1_better_159 : decode cX1_better 159 = .ok (.ireturn, 1) := by decide +kernel
abbrev cX1_isUp : ByteArray := prog_1_method_10_code
def yX1_isUp : MethodName := ⟨RX1, "isUp", "(II)Z"⟩
theorem dX1_isUp_0 : decode cX1_isUp 0 = .ok (.aload_n 0, 1) := by decide +kernel
theorem dX1_isUp_1 : decode cX1_isUp 1 = .ok (.getfield 7, 3) := by decide +kernel
theorem dX1_isUp_4 : decode cX1_isUp 4 = .ok (.iload_n 1, 1) := by decide +kernel
theorem dX1_isUp_5 : decode cX1_isUp 5 = .ok (.iconst 4, 1) := by decide +kernel
theorem dX1_isUp_6 : decode cX1_isUp 6 = .ok (.imul, 1) := by decide +kernel
theorem dX1_isUp_7 : decode cX1_isUp 7 = .ok (.iload_n 2, 1) := by decide +kernel
theorem dX1_isUp_8 : decode cX1_isUp 8 = .ok (.iadd, 1) := by decide +kernel
theorem dX1_isUp_9 : decode cX1_isUp 9 = .ok (.iaload, 1) := by decide +kernel
theorem dX1_isUp_10 : decode cX1_isUp 10 = .ok (.istore_n 3, 1) := by decide +kernel
theorem dX1_isUp_11 : decode cX1_isUp 11 = .ok (.iload_n 3, 1) := by decide +kernel
theorem dX1_isUp_12 : decode cX1_isUp 12 = .ok (.iconst (-1), 1) := by decide +kernel
theorem dX1_isUp_13 : decode cX1_isUp 13 = .ok (.if_icmp .eq 16, 3) := by decide +kernel
theorem dX1_isUp_16 : decode cX1_isUp 16 = .ok (.aload_n 0, 1) := by decide +kernel
theorem dX1_isUp_17 : decode cX1_isUp 17 = .ok (.getfield 19, 3) := by decide +kernel
theorem dX1_isUp_20 : decode cX1_isUp 20 = .ok (.iload_n 3, 1) := by decide +kernel
theorem dX1_isUp_21 : decode cX1_isUp 21 = .ok (.baload, 1) := by decide +kernel
theorem dX1_isUp_22 : decode cX1_isUp 22 = .ok (.ifCond .ne 7, 3) := by decide +kernel
theorem dX1_isUp_25 : decode cX1_isUp 25 = .ok (.iconst 1, 1) := by decide +kernel
theorem dX1_isUp_26 : decode cX1_isUp 26 = .ok (.goto 4, 3) := by decide +kernel
theorem dX1_isUp_29 : decode cX1_isUp 29 = .ok (.iconst 0, 1) := by decide +kernel
theorem dX1_isUp_30 : decode cX1_isUp 30 = .ok (.ireturn, 1) := by decide +kernel
abbrev cX1_best : ByteArray := prog_1_method_12_code
def yX1_best : MethodName := ⟨RX1, "best", "(II)I"⟩
theorem dX1_best_0 : decode cX1_best 0 = .ok (.sipush 9999, 3) := by decide +kernel
theorem dX1_best_3 : decode cX1_best 3 = .ok (.istore_n 3, 1) := by decide +kernel
theorem dX1_best_4 : decode cX1_best 4 = .ok (.iconst (-1), 1) := by decide +kernel
theorem dX1_best_5 : decode cX1_best 5 = .ok (.istore 4, 2) := by decide +kernel
theorem dX1_best_7 : decode cX1_best 7 = .ok (.iconst 0, 1) := by decide +kernel
theorem dX1_best_8 : decode cX1_best 8 = .ok (.istore 5, 2) := by decide +kernel
theorem dX1_best_10 : decode cX1_best 10 = .ok (.iload 5, 2) := by decide +kernel
theorem dX1_best_12 : decode cX1_best 12 = .ok (.iconst 4, 1) := by decide +kernel
theorem dX1_best_13 : decode cX1_best 13 = .ok (.if_icmp .ge 121, 3) := by decide +kernel
theorem dX1_best_16 : decode cX1_best 16 = .ok (.aload_n 0, 1) := by decide +kernel
theorem dX1_best_17 : decode cX1_best 17 = .ok (.iload_n 1, 1) := by decide +kernel
theorem dX1_best_18 : decode cX1_best 18 = .ok (.iload 5, 2) := by decide +kernel
theorem dX1_best_20 : decode cX1_best 20 = .ok (.invokevirtual 60, 3) := by decide +kernel
theorem dX1_best_23 : decode cX1_best 23 = .ok (.ifCond .ne 6, 3) := by decide +kernel
theorem dX1_best_26 : decode cX1_best 26 = .ok (.goto 102, 3) := by decide +kernel
theorem dX1_best_29 : decode cX1_best 29 = .ok (.aload_n 0, 1) := by decide +kernel
theorem dX1_best_30 : decode cX1_best 30 = .ok (.getfield 7, 3) := by decide +kernel
theorem dX1_best_33 : decode cX1_best 33 = .ok (.iload_n 1, 1) := by decide +kernel
theorem dX1_best_34 : decode cX1_best 34 = .ok (.iconst 4, 1) := by decide +kernel
theorem dX1_best_35 : decode cX1_best 35 = .ok (.imul, 1) := by decide +kernel
theorem dX1_best_36 : decode cX1_best 36 = .ok (.iload 5, 2) := by decide +kernel
theorem dX1_best_38 : decode cX1_best 38 = .ok (.iadd, 1) := by decide +kernel
theorem dX1_best_39 : decode cX1_best 39 = .ok (.iaload, 1) := by decide +kernel
theorem dX1_best_40 : decode cX1_best 40 = .ok (.istore 6, 2) := by decide +kernel
theorem dX1_best_42 : decode cX1_best 42 = .ok (.iconst 0, 1) := by decide +kernel
theorem dX1_best_43 : decode cX1_best 43 = .ok (.istore 7, 2) := by decide +kernel
theorem dX1_best_45 : decode cX1_best 45 = .ok (.iload 7, 2) := by decide +kernel
theorem dX1_best_47 : decode cX1_best 47 = .ok (.aload_n 0, 1) := by decide +kernel
theorem dX1_best_48 : decode cX1_best 48 = .ok (.getfield 42, 3) := by decide +kernel
theorem dX1_best_51 : decode cX1_best 51 = .ok (.if_icmp .ge 77, 3) := by decide +kernel
theorem dX1_best_54 : decode cX1_best 54 = .ok (.aload_n 0, 1) := by decide +kernel
theorem dX1_best_55 : decode cX1_best 55 = .ok (.getfield 13, 3) := by decide +kernel
theorem dX1_best_58 : decode cX1_best 58 = .ok (.iload_n 1, 1) := by decide +kernel
theorem dX1_best_59 : decode cX1_best 59 = .ok (.iconst 4, 1) := by decide +kernel
theorem dX1_best_60 : decode cX1_best 60 = .ok (.imul, 1) := by decide +kernel
theorem dX1_best_61 : decode cX1_best 61 = .ok (.iload 5, 2) := by decide +kernel
theorem dX1_best_63 : decode cX1_best 63 = .ok (.iadd, 1) := by decide +kernel
theorem dX1_best_64 : decode cX1_best 64 = .ok (.iaload, 1) := by decide +kernel
theorem dX1_best_65 : decode cX1_best 65 = .ok (.aload_n 0, 1) := by decide +kernel
theorem dX1_best_66 : decode cX1_best 66 = .ok (.getfield 23, 3) := by decide +kernel
theorem dX1_best_69 : decode cX1_best 69 = .ok (.iload 7, 2) := by decide +kernel
theorem dX1_best_71 : decode cX1_best 71 = .ok (.bipush 26, 2) := by decide +kernel
theorem dX1_best_73 : decode cX1_best 73 = .ok (.imul, 1) := by decide +kernel
theorem dX1_best_74 : decode cX1_best 74 = .ok (.iload_n 2, 1) := by decide +kernel
theorem dX1_best_75 : decode cX1_best 75 = .ok (.iadd, 1) := by decide +kernel
theorem dX1_best_76 : decode cX1_best 76 = .ok (.iaload, 1) := by decide +kernel
theorem dX1_best_77 : decode cX1_best 77 = .ok (.iadd, 1) := by decide +kernel
theorem dX1_best_78 : decode cX1_best 78 = .ok (.istore 8, 2) := by decide +kernel
theorem dX1_best_80 : decode cX1_best 80 = .ok (.iload 7, 2) := by decide +kernel
theorem dX1_best_82 : decode cX1_best 82 = .ok (.iload_n 1, 1) := by decide +kernel
theorem dX1_best_83 : decode cX1_best 83 = .ok (.if_icmp .eq 39, 3) := by decide +kernel
theorem dX1_best_86 : decode cX1_best 86 = .ok (.aload_n 0, 1) := by decide +kernel
theorem dX1_best_87 : decode cX1_best 87 = .ok (.getfield 16, 3) := by decide +kernel
theorem dX1_best_90 : decode cX1_best 90 = .ok (.iload 7, 2) := by decide +kernel
theorem dX1_best_92 : decode cX1_best 92 = .ok (.bipush 16, 2) := by decide +kernel
theorem dX1_best_94 : decode cX1_best 94 = .ok (.imul, 1) := by decide +kernel
theorem dX1_best_95 : decode cX1_best 95 = .ok (.iload 6, 2) := by decide +kernel
theorem dX1_best_97 : decode cX1_best 97 = .ok (.iadd, 1) := by decide +kernel
theorem dX1_best_98 : decode cX1_best 98 = .ok (.iaload, 1) := by decide +kernel
theorem dX1_best_99 : decode cX1_best 99 = .ok (.iconst (-1), 1) := by decide +kernel
theorem dX1_best_100 : decode cX1_best 100 = .ok (.if_icmp .eq 22, 3) := by decide +kernel
theorem dX1_best_103 : decode cX1_best 103 = .ok (.iload 8, 2) := by decide +kernel
theorem dX1_best_105 : decode cX1_best 105 = .ok (.iload_n 3, 1) := by decide +kernel
theorem dX1_best_106 : decode cX1_best 106 = .ok (.if_icmp .ge 16, 3) := by decide +kernel
theorem dX1_best_109 : decode cX1_best 109 = .ok (.iload 8, 2) := by decide +kernel
theorem dX1_best_111 : decode cX1_best 111 = .ok (.istore_n 3, 1) := by decide +kernel
theorem dX1_best_112 : decode cX1_best 112 = .ok (.bipush 16, 2) := by decide +kernel
theorem dX1_best_114 : decode cX1_best 114 = .ok (.iload 5, 2) := by decide +kernel
theorem dX1_best_116 : decode cX1_best 116 = .ok (.imul, 1) := by decide +kernel
theorem dX1_best_117 : decode cX1_best 117 = .ok (.iload 7, 2) := by decide +kernel
theorem dX1_best_119 : decode cX1_best 119 = .ok (.iadd, 1) := by decide +kernel
theorem dX1_best_120 : decode cX1_best 120 = .ok (.istore 4, 2) := by decide +kernel
theorem dX1_best_122 : decode cX1_best 122 = .ok (.iinc 7 1, 3) := by decide +kernel
theorem dX1_best_125 : decode cX1_best 125 = .ok (.goto (-80), 3) := by decide +kernel
theorem dX1_best_128 : decode cX1_best 128 = .ok (.iinc 5 1, 3) := by decide +kernel
theorem dX1_best_131 : decode cX1_best 131 = .ok (.goto (-121), 3) := by decide +kernel
theorem dX1_best_134 : decode cX1_best 134 = .ok (.iload 4, 2) := by decide +kernel
theorem dX1_best_136 : decode cX1_best 136 = .ok (.ireturn, 1) := by decide +kernel
abbrev cX1_port : ByteArray := prog_1_method_16_code
def yX1_port : MethodName := ⟨RX1, "port", "(IZI)I"⟩
theorem dX1_port_0 : decode cX1_port 0 = .ok (.aload_n 0, 1) := by decide +kernel
theorem dX1_port_1 : decode cX1_port 1 = .ok (.iload_n 1, 1) := by decide +kernel
theorem dX1_port_2 : decode cX1_port 2 = .ok (.iload_n 2, 1) := by decide +kernel
theorem dX1_port_3 : decode cX1_port 3 = .ok (.iload_n 3, 1) := by decide +kernel
theorem dX1_port_4 : decode cX1_port 4 = .ok (.invokevirtual 76, 3) := by decide +kernel
theorem dX1_port_7 : decode cX1_port 7 = .ok (.istore 4, 2) := by decide +kernel
theorem dX1_port_9 : decode cX1_port 9 = .ok (.iload 4, 2) := by decide +kernel
theorem dX1_port_11 : decode cX1_port 11 = .ok (.iconst (-1), 1) := by decide +kernel
theorem dX1_port_12 : decode cX1_port 12 = .ok (.if_icmp .eq 14, 3) := by decide +kernel
theorem dX1_port_15 : decode cX1_port 15 = .ok (.aload_n 0, 1) := by decide +kernel
theorem dX1_port_16 : decode cX1_port 16 = .ok (.getfield 26, 3) := by decide +kernel
theorem dX1_port_19 : decode cX1_port 19 = .ok (.iload 4, 2) := by decide +kernel
theorem dX1_port_21 : decode cX1_port 21 = .ok (.iaload, 1) := by decide +kernel
theorem dX1_port_22 : decode cX1_port 22 = .ok (.iconst (-1), 1) := by decide +kernel
theorem dX1_port_23 : decode cX1_port 23 = .ok (.if_icmp .ne 7, 3) := by decide +kernel
theorem dX1_port_26 : decode cX1_port 26 = .ok (.iconst (-1), 1) := by decide +kernel
theorem dX1_port_27 : decode cX1_port 27 = .ok (.goto 12, 3) := by decide +kernel
theorem dX1_port_30 : decode cX1_port 30 = .ok (.aload_n 0, 1) := by decide +kernel
theorem dX1_port_31 : decode cX1_port 31 = .ok (.getfield 26, 3) := by decide +kernel
theorem dX1_port_34 : decode cX1_port 34 = .ok (.iload 4, 2) := by decide +kernel
theorem dX1_port_36 : decode cX1_port 36 = .ok (.iaload, 1) := by decide +kernel
theorem dX1_port_37 : decode cX1_port 37 = .ok (.iconst 4, 1) := by decide +kernel
theorem dX1_port_38 : decode cX1_port 38 = .ok (.ishr, 1) := by decide +kernel
theorem dX1_port_39 : decode cX1_port 39 = .ok (.ireturn, 1) := by decide +kernel
abbrev cX1_next : ByteArray := prog_1_method_17_code
def yX1_next : MethodName := ⟨RX1, "next", "(IZI)I"⟩
theorem dX1_next_0 : decode cX1_next 0 = .ok (.aload_n 0, 1) := by decide +kernel
theorem dX1_next_1 : decode cX1_next 1 = .ok (.iload_n 1, 1) := by decide +kernel
theorem dX1_next_2 : decode cX1_next 2 = .ok (.iload_n 2, 1) := by decide +kernel
theorem dX1_next_3 : decode cX1_next 3 = .ok (.iload_n 3, 1) := by decide +kernel
theorem dX1_next_4 : decode cX1_next 4 = .ok (.invokevirtual 76, 3) := by decide +kernel
theorem dX1_next_7 : decode cX1_next 7 = .ok (.istore 4, 2) := by decide +kernel
theorem dX1_next_9 : decode cX1_next 9 = .ok (.iload 4, 2) := by decide +kernel
theorem dX1_next_11 : decode cX1_next 11 = .ok (.iconst (-1), 1) := by decide +kernel
theorem dX1_next_12 : decode cX1_next 12 = .ok (.if_icmp .eq 29, 3) := by decide +kernel
theorem dX1_next_15 : decode cX1_next 15 = .ok (.aload_n 0, 1) := by decide +kernel
theorem dX1_next_16 : decode cX1_next 16 = .ok (.getfield 26, 3) := by decide +kernel
theorem dX1_next_19 : decode cX1_next 19 = .ok (.iload 4, 2) := by decide +kernel
theorem dX1_next_21 : decode cX1_next 21 = .ok (.iaload, 1) := by decide +kernel
theorem dX1_next_22 : decode cX1_next 22 = .ok (.iconst (-1), 1) := by decide +kernel
theorem dX1_next_23 : decode cX1_next 23 = .ok (.if_icmp .eq 18, 3) := by decide +kernel
theorem dX1_next_26 : decode cX1_next 26 = .ok (.aload_n 0, 1) := by decide +kernel
theorem dX1_next_27 : decode cX1_next 27 = .ok (.getfield 26, 3) := by decide +kernel
theorem dX1_next_30 : decode cX1_next 30 = .ok (.iload 4, 2) := by decide +kernel
theorem dX1_next_32 : decode cX1_next 32 = .ok (.iaload, 1) := by decide +kernel
theorem dX1_next_33 : decode cX1_next 33 = .ok (.bipush 15, 2) := by decide +kernel
theorem dX1_next_35 : decode cX1_next 35 = .ok (.iand, 1) := by decide +kernel
theorem dX1_next_36 : decode cX1_next 36 = .ok (.bipush 15, 2) := by decide +kernel
theorem dX1_next_38 : decode cX1_next 38 = .ok (.if_icmp .ne 7, 3) := by decide +kernel
theorem dX1_next_41 : decode cX1_next 41 = .ok (.iconst (-1), 1) := by decide +kernel
theorem dX1_next_42 : decode cX1_next 42 = .ok (.goto 13, 3) := by decide +kernel
theorem dX1_next_45 : decode cX1_next 45 = .ok (.aload_n 0, 1) := by decide +kernel
theorem dX1_next_46 : decode cX1_next 46 = .ok (.getfield 26, 3) := by decide +kernel
theorem dX1_next_49 : decode cX1_next 49 = .ok (.iload 4, 2) := by decide +kernel
theorem dX1_next_51 : decode cX1_next 51 = .ok (.iaload, 1) := by decide +kernel
theorem dX1_next_52 : decode cX1_next 52 = .ok (.bipush 15, 2) := by decide +kernel
theorem dX1_next_54 : decode cX1_next 54 = .ok (.iand, 1) := by decide +kernel
theorem dX1_next_55 : decode cX1_next 55 = .ok (.ireturn, 1) := by decide +kernel
abbrev cX1_walk : ByteArray := prog_1_method_18_code
def yX1_walk : MethodName := ⟨RX1, "walk", "(IZII)I"⟩
theorem dX1_walk_0 : decode cX1_walk 0 = .ok (.iload 4, 2) := by decide +kernel
theorem dX1_walk_2 : decode cX1_walk 2 = .ok (.ifCond .lt 14, 3) := by decide +kernel
theorem dX1_walk_5 : decode cX1_walk 5 = .ok (.aload_n 0, 1) := by decide +kernel
theorem dX1_walk_6 : decode cX1_walk 6 = .ok (.iload_n 1, 1) := by decide +kernel
theorem dX1_walk_7 : decode cX1_walk 7 = .ok (.iload_n 2, 1) := by decide +kernel
theorem dX1_walk_8 : decode cX1_walk 8 = .ok (.iload_n 3, 1) := by decide +kernel
theorem dX1_walk_9 : decode cX1_walk 9 = .ok (.invokevirtual 80, 3) := by decide +kernel
theorem dX1_walk_12 : decode cX1_walk 12 = .ok (.iconst (-1), 1) := by decide +kernel
theorem dX1_walk_13 : decode cX1_walk 13 = .ok (.if_icmp .ne 5, 3) := by decide +kernel
theorem dX1_walk_16 : decode cX1_walk 16 = .ok (.iconst (-1), 1) := by decide +kernel
theorem dX1_walk_17 : decode cX1_walk 17 = .ok (.ireturn, 1) := by decide +kernel
theorem dX1_walk_18 : decode cX1_walk 18 = .ok (.iload_n 1, 1) := by decide +kernel
theorem dX1_walk_19 : decode cX1_walk 19 = .ok (.istore 5, 2) := by decide +kernel
theorem dX1_walk_21 : decode cX1_walk 21 = .ok (.iconst 0, 1) := by decide +kernel
theorem dX1_walk_22 : decode cX1_walk 22 = .ok (.istore 6, 2) := by decide +kernel
theorem dX1_walk_24 : decode cX1_walk 24 = .ok (.iload 6, 2) := by decide +kernel
theorem dX1_walk_26 : decode cX1_walk 26 = .ok (.iload 4, 2) := by decide +kernel
theorem dX1_walk_28 : decode cX1_walk 28 = .ok (.if_icmp .ge 25, 3) := by decide +kernel
theorem dX1_walk_31 : decode cX1_walk 31 = .ok (.iload 5, 2) := by decide +kernel
theorem dX1_walk_33 : decode cX1_walk 33 = .ok (.iconst (-1), 1) := by decide +kernel
theorem dX1_walk_34 : decode cX1_walk 34 = .ok (.if_icmp .eq 19, 3) := by decide +kernel
theorem dX1_walk_37 : decode cX1_walk 37 = .ok (.aload_n 0, 1) := by decide +kernel
theorem dX1_walk_38 : decode cX1_walk 38 = .ok (.iload 5, 2) := by decide +kernel
theorem dX1_walk_40 : decode cX1_walk 40 = .ok (.iload_n 2, 1) := by decide +kernel
theorem dX1_walk_41 : decode cX1_walk 41 = .ok (.iload_n 3, 1) := by decide +kernel
theorem dX1_walk_42 : decode cX1_walk 42 = .ok (.invokevirtual 82, 3) := by decide +kernel
theorem dX1_walk_45 : decode cX1_walk 45 = .ok (.istore 5, 2) := by decide +kernel
theorem dX1_walk_47 : decode cX1_walk 47 = .ok (.iinc 6 1, 3) := by decide +kernel
theorem dX1_walk_50 : decode cX1_walk 50 = .ok (.goto (-26), 3) := by decide +kernel
theorem dX1_walk_53 : decode cX1_walk 53 = .ok (.iload 5, 2) := by decide +kernel
theorem dX1_walk_55 : decode cX1_walk 55 = .ok (.ireturn, 1) := by decide +kernel
abbrev cX1_reach : ByteArray := prog_1_method_19_code
def yX1_reach : MethodName := ⟨RX1, "reach", "(I)I"⟩
theorem dX1_reach_0 : decode cX1_reach 0 = .ok (.iload_n 1, 1) := by decide +kernel
theorem dX1_reach_1 : decode cX1_reach 1 = .ok (.ifCond .lt 11, 3) := by decide +kernel
theorem dX1_reach_4 : decode cX1_reach 4 = .ok (.iload_n 1, 1) := by decide +kernel
theorem dX1_reach_5 : decode cX1_reach 5 = .ok (.aload_n 0, 1) := by decide +kernel
theorem dX1_reach_6 : decode cX1_reach 6 = .ok (.getfield 42, 3) := by decide +kernel
theorem dX1_reach_9 : decode cX1_reach 9 = .ok (.if_icmp .lt 5, 3) := by decide +kernel
theorem dX1_reach_12 : decode cX1_reach 12 = .ok (.iconst (-1), 1) := by decide +kernel
theorem dX1_reach_13 : decode cX1_reach 13 = .ok (.ireturn, 1) := by decide +kernel
theorem dX1_reach_14 : decode cX1_reach 14 = .ok (.iconst 0, 1) := by decide +kernel
theorem dX1_reach_15 : decode cX1_reach 15 = .ok (.istore_n 2, 1) := by decide +kernel
theorem dX1_reach_16 : decode cX1_reach 16 = .ok (.iconst 0, 1) := by decide +kernel
theorem dX1_reach_17 : decode cX1_reach 17 = .ok (.istore_n 3, 1) := by decide +kernel
theorem dX1_reach_18 : decode cX1_reach 18 = .ok (.iload_n 3, 1) := by decide +kernel
theorem dX1_reach_19 : decode cX1_reach 19 = .ok (.aload_n 0, 1) := by decide +kernel
theorem dX1_reach_20 : decode cX1_reach 20 = .ok (.getfield 42, 3) := by decide +kernel
theorem dX1_reach_23 : decode cX1_reach 23 = .ok (.if_icmp .ge 28, 3) := by decide +kernel
theorem dX1_reach_26 : decode cX1_reach 26 = .ok (.iload_n 2, 1) := by decide +kernel
theorem dX1_reach_27 : decode cX1_reach 27 = .ok (.aload_n 0, 1) := by decide +kernel
theorem dX1_reach_28 : decode cX1_reach 28 = .ok (.iload_n 1, 1) := by decide +kernel
theorem dX1_reach_29 : decode cX1_reach 29 = .ok (.iconst 0, 1) := by decide +kernel
theorem dX1_reach_30 : decode cX1_reach 30 = .ok (.iload_n 3, 1) := by decide +kernel
theorem dX1_reach_31 : decode cX1_reach 31 = .ok (.invokevirtual 80, 3) := by decide +kernel
theorem dX1_reach_34 : decode cX1_reach 34 = .ok (.iconst (-1), 1) := by decide +kernel
theorem dX1_reach_35 : decode cX1_reach 35 = .ok (.if_icmp .ne 7, 3) := by decide +kernel
theorem dX1_reach_38 : decode cX1_reach 38 = .ok (.iconst 0, 1) := by decide +kernel
theorem dX1_reach_39 : decode cX1_reach 39 = .ok (.goto 4, 3) := by decide +kernel
theorem dX1_reach_42 : decode cX1_reach 42 = .ok (.iconst 1, 1) := by decide +kernel
theorem dX1_reach_43 : decode cX1_reach 43 = .ok (.iadd, 1) := by decide +kernel
theorem dX1_reach_44 : decode cX1_reach 44 = .ok (.istore_n 2, 1) := by decide +kernel
theorem dX1_reach_45 : decode cX1_reach 45 = .ok (.iinc 3 1, 3) := by decide +kernel
theorem dX1_reach_48 : decode cX1_reach 48 = .ok (.goto (-30), 3) := by decide +kernel
theorem dX1_reach_51 : decode cX1_reach 51 = .ok (.iload_n 2, 1) := by decide +kernel
theorem dX1_reach_52 : decode cX1_reach 52 = .ok (.ireturn, 1) := by decide +kernel
abbrev cX1_count : ByteArray := prog_1_method_21_code
def yX1_count : MethodName := ⟨RX1, "count", "(I)I"⟩
theorem dX1_count_0 : decode cX1_count 0 = .ok (.iload_n 1, 1) := by decide +kernel
theorem dX1_count_1 : decode cX1_count 1 = .ok (.tableswitch 51 0 3 #[31, 36, 41, 46], 31) := by decide +kernel
theorem dX1_count_32 : decode cX1_count 32 = .ok (.aload_n 0, 1) := by decide +kernel
theorem dX1_count_33 : decode cX1_count 33 = .ok (.getfield 42, 3) := by decide +kernel
theorem dX1_count_36 : decode cX1_count 36 = .ok (.ireturn, 1) := by decide +kernel
theorem dX1_count_37 : decode cX1_count 37 = .ok (.aload_n 0, 1) := by decide +kernel
theorem dX1_count_38 : decode cX1_count 38 = .ok (.getfield 50, 3) := by decide +kernel
theorem dX1_count_41 : decode cX1_count 41 = .ok (.ireturn, 1) := by decide +kernel
theorem dX1_count_42 : decode cX1_count 42 = .ok (.aload_n 0, 1) := by decide +kernel
theorem dX1_count_43 : decode cX1_count 43 = .ok (.getfield 53, 3) := by decide +kernel
theorem dX1_count_46 : decode cX1_count 46 = .ok (.ireturn, 1) := by decide +kernel
theorem dX1_count_47 : decode cX1_count 47 = .ok (.aload_n 0, 1) := by decide +kernel
theorem dX1_count_48 : decode cX1_count 48 = .ok (.invokevirtual 85, 3) := by decide +kernel
theorem dX1_count_51 : decode cX1_count 51 = .ok (.ireturn, 1) := by decide +kernel
theorem dX1_count_52 : decode cX1_count 52 = .ok (.iconst (-1), 1) := by decide +kernel
theorem dX1_count_53 : decode cX1_count 53 = .ok (.ireturn, 1) := by decide +kernel
abbrev cX1_greatest : ByteArray := prog_1_method_20_code
def yX1_greatest : MethodName := ⟨RX1, "greatest", "()I"⟩
theorem dX1_greatest_0 : decode cX1_greatest 0 = .ok (.iconst 0, 1) := by decide +kernel
theorem dX1_greatest_1 : decode cX1_greatest 1 = .ok (.istore_n 1, 1) := by decide +kernel
theorem dX1_greatest_2 : decode cX1_greatest 2 = .ok (.iconst 0, 1) := by decide +kernel
theorem dX1_greatest_3 : decode cX1_greatest 3 = .ok (.istore_n 2, 1) := by decide +kernel
theorem dX1_greatest_4 : decode cX1_greatest 4 = .ok (.iload_n 2, 1) := by decide +kernel
theorem dX1_greatest_5 : decode cX1_greatest 5 = .ok (.aload_n 0, 1) := by decide +kernel
theorem dX1_greatest_6 : decode cX1_greatest 6 = .ok (.getfield 42, 3) := by decide +kernel
theorem dX1_greatest_9 : decode cX1_greatest 9 = .ok (.if_icmp .ge 37, 3) := by decide +kernel
theorem dX1_greatest_12 : decode cX1_greatest 12 = .ok (.iconst 0, 1) := by decide +kernel
theorem dX1_greatest_13 : decode cX1_greatest 13 = .ok (.istore_n 3, 1) := by decide +kernel
theorem dX1_greatest_14 : decode cX1_greatest 14 = .ok (.iload_n 3, 1) := by decide +kernel
theorem dX1_greatest_15 : decode cX1_greatest 15 = .ok (.aload_n 0, 1) := by decide +kernel
theorem dX1_greatest_16 : decode cX1_greatest 16 = .ok (.getfield 42, 3) := by decide +kernel
theorem dX1_greatest_19 : decode cX1_greatest 19 = .ok (.if_icmp .ge 21, 3) := by decide +kernel
theorem dX1_greatest_22 : decode cX1_greatest 22 = .ok (.iload_n 1, 1) := by decide +kernel
theorem dX1_greatest_23 : decode cX1_greatest 23 = .ok (.aload_n 0, 1) := by decide +kernel
theorem dX1_greatest_24 : decode cX1_greatest 24 = .ok (.iload_n 2, 1) := by decide +kernel
theorem dX1_greatest_25 : decode cX1_greatest 25 = .ok (.iconst 0, 1) := by decide +kernel
theorem dX1_greatest_26 : decode cX1_greatest 26 = .ok (.iload_n 3, 1) := by decide +kernel
theorem dX1_greatest_27 : decode cX1_greatest 27 = .ok (.invokevirtual 80, 3) := by decide +kernel
theorem dX1_greatest_30 : decode cX1_greatest 30 = .ok (.invokestatic 39, 3) := by decide +kernel
theorem dX1_greatest_33 : decode cX1_greatest 33 = .ok (.istore_n 1, 1) := by decide +kernel
theorem dX1_greatest_34 : decode cX1_greatest 34 = .ok (.iinc 3 1, 3) := by decide +kernel
theorem dX1_greatest_37 : decode cX1_greatest 37 = .ok (.goto (-23), 3) := by decide +kernel
theorem dX1_greatest_40 : decode cX1_greatest 40 = .ok (.iinc 2 1, 3) := by decide +kernel
theorem dX1_greatest_43 : decode cX1_greatest 43 = .ok (.goto (-39), 3) := by decide +kernel
theorem dX1_greatest_46 : decode cX1_greatest 46 = .ok (.iload_n 1, 1) := by decide +kernel
theorem dX1_greatest_47 : decode cX1_greatest 47 = .ok (.ireturn, 1) := by decide +kernel
theorem q19 : (Jvm.Cond.initialized "WireWays") ∈ lw_all := lw_g (lw_at lw_m1 1 rfl) rfl
theorem q23 : (Jvm.Cond.instantiable "WireWays" (10 : Nat)) ∈ lw_all := lw_g (lw_at lw_m1 5 rfl) rfl
theorem q25 : (Jvm.Cond.instanceMethod ({ cls := "WireWays", name := "<init>", desc := "(I)V" } : Jvm.MethodName)) ∈ lw_all := lw_g (lw_at lw_m1 7 rfl) rfl
theorem q26 : (Jvm.Cond.code ({ cls := "WireWays", name := "<init>", desc := "(I)V" } : Jvm.MethodName) prog_1_method_1_code (3 : Nat) (Option.none : Option Jvm.ClassFile.FieldType)) ∈ lw_all := lw_g (lw_at lw_m1 8 rfl) rfl
theorem q27 : (Jvm.Cond.methodLink "WireWays" (1 : Nat) ({ cls := "java/lang/Object", name := "<init>", desc := "()V" } : Jvm.MethodName)) ∈ lw_all := lw_g (lw_at lw_m1 9 rfl) rfl
theorem q30 : (Jvm.Cond.methodLink "WireWays" (33 : Nat) ({ cls := "java/lang/Math", name := "min", desc := "(II)I" } : Jvm.MethodName)) ∈ lw_all := lw_g (lw_at lw_m1 12 rfl) rfl
theorem q33 : (Jvm.Cond.methodLink "WireWays" (39 : Nat) ({ cls := "java/lang/Math", name := "max", desc := "(II)I" } : Jvm.MethodName)) ∈ lw_all := lw_g (lw_at lw_m1 15 rfl) rfl
theorem q36 : (Jvm.Cond.fieldLink "WireWays" (42 : Nat) "WireWays" "routers" "I") ∈ lw_all := lw_g (lw_at lw_m1 18 rfl) rfl
theorem q37 : (Jvm.Cond.fieldLink "WireWays" (7 : Nat) "WireWays" "wireOf" "[I") ∈ lw_all := lw_g (lw_at lw_m1 19 rfl) rfl
theorem q38 : (Jvm.Cond.fieldLink "WireWays" (13 : Nat) "WireWays" "costOf" "[I") ∈ lw_all := lw_g (lw_at lw_m1 20 rfl) rfl
theorem q39 : (Jvm.Cond.fieldLink "WireWays" (16 : Nat) "WireWays" "portOn" "[I") ∈ lw_all := lw_g (lw_at lw_m1 21 rfl) rfl
theorem q40 : (Jvm.Cond.fieldLink "WireWays" (19 : Nat) "WireWays" "isCut" "[Z") ∈ lw_all := lw_g (lw_at lw_m1 22 rfl) rfl
theorem q41 : (Jvm.Cond.fieldLink "WireWays" (23 : Nat) "WireWays" "far" "[I") ∈ lw_all := lw_g (lw_at lw_m1 23 rfl) rfl
theorem q42 : (Jvm.Cond.fieldLink "WireWays" (26 : Nat) "WireWays" "ways" "[I") ∈ lw_all := lw_g (lw_at lw_m1 24 rfl) rfl
theorem q43 : (Jvm.Cond.fieldLink "WireWays" (29 : Nat) "WireWays" "isOld" "Z") ∈ lw_all := lw_g (lw_at lw_m1 25 rfl) rfl
theorem q44 : (Jvm.Cond.fieldLink "WireWays" (50 : Nat) "WireWays" "plugs" "I") ∈ lw_all := lw_g (lw_at lw_m1 26 rfl) rfl
theorem q45 : (Jvm.Cond.fieldLink "WireWays" (53 : Nat) "WireWays" "cuts" "I") ∈ lw_all := lw_g (lw_at lw_m1 27 rfl) rfl
theorem q46 : (Jvm.Cond.laysFinal "WireWays" "WireWays" "routers" "I") ∈ lw_all := lw_g (lw_at lw_m1 28 rfl) rfl
theorem q47 : (Jvm.Cond.soleField "WireWays" "routers") ∈ lw_all := lw_g (lw_at lw_m1 29 rfl) rfl
theorem q48 : (Jvm.Cond.laysFinal "WireWays" "WireWays" "wireOf" "[I") ∈ lw_all := lw_g (lw_at lw_m1 30 rfl) rfl
theorem q49 : (Jvm.Cond.soleField "WireWays" "wireOf") ∈ lw_all := lw_g (lw_at lw_m1 31 rfl) rfl
theorem q50 : (Jvm.Cond.laysFinal "WireWays" "WireWays" "costOf" "[I") ∈ lw_all := lw_g (lw_at lw_m1 32 rfl) rfl
theorem q51 : (Jvm.Cond.soleField "WireWays" "costOf") ∈ lw_all := lw_g (lw_at lw_m1 33 rfl) rfl
theorem q52 : (Jvm.Cond.laysFinal "WireWays" "WireWays" "portOn" "[I") ∈ lw_all := lw_g (lw_at lw_m1 34 rfl) rfl
theorem q53 : (Jvm.Cond.soleField "WireWays" "portOn") ∈ lw_all := lw_g (lw_at lw_m1 35 rfl) rfl
theorem q54 : (Jvm.Cond.laysFinal "WireWays" "WireWays" "isCut" "[Z") ∈ lw_all := lw_g (lw_at lw_m1 36 rfl) rfl
theorem q55 : (Jvm.Cond.soleField "WireWays" "isCut") ∈ lw_all := lw_g (lw_at lw_m1 37 rfl) rfl
theorem q56 : (Jvm.Cond.laysFinal "WireWays" "WireWays" "far" "[I") ∈ lw_all := lw_g (lw_at lw_m1 38 rfl) rfl
theorem q57 : (Jvm.Cond.soleField "WireWays" "far") ∈ lw_all := lw_g (lw_at lw_m1 39 rfl) rfl
theorem q58 : (Jvm.Cond.laysFinal "WireWays" "WireWays" "ways" "[I") ∈ lw_all := lw_g (lw_at lw_m1 40 rfl) rfl
theorem q59 : (Jvm.Cond.soleField "WireWays" "ways") ∈ lw_all := lw_g (lw_at lw_m1 41 rfl) rfl
theorem q60 : (Jvm.Cond.lays "WireWays" "WireWays" "isOld" "Z") ∈ lw_all := lw_g (lw_at lw_m1 42 rfl) rfl
theorem q61 : (Jvm.Cond.soleField "WireWays" "isOld") ∈ lw_all := lw_g (lw_at lw_m1 43 rfl) rfl
theorem q62 : (Jvm.Cond.lays "WireWays" "WireWays" "plugs" "I") ∈ lw_all := lw_g (lw_at lw_m1 44 rfl) rfl
theorem q63 : (Jvm.Cond.soleField "WireWays" "plugs") ∈ lw_all := lw_g (lw_at lw_m1 45 rfl) rfl
theorem q64 : (Jvm.Cond.lays "WireWays" "WireWays" "cuts" "I") ∈ lw_all := lw_g (lw_at lw_m1 46 rfl) rfl
theorem q65 : (Jvm.Cond.soleField "WireWays" "cuts") ∈ lw_all := lw_g (lw_at lw_m1 47 rfl) rfl
theorem q66 : (Jvm.Cond.superclass "WireWays" "java/lang/Object") ∈ lw_all := lw_g (lw_at lw_m1 48 rfl) rfl
theorem q70 : (Jvm.Cond.instanceMethod ({ cls := "WireWays", name := "plug", desc := "(IIII)Z" } : Jvm.MethodName)) ∈ lw_all := lw_g (lw_at lw_m1 52 rfl) rfl
theorem q71 : (Jvm.Cond.selects "WireWays" ({ cls := "WireWays", name := "plug", desc := "(IIII)Z" } : Jvm.MethodName) ({ cls := "WireWays", name := "plug", desc := "(IIII)Z" } : Jvm.MethodName)) ∈ lw_all := lw_g (lw_at lw_m1 53 rfl) rfl
theorem q72 : (Jvm.Cond.code ({ cls := "WireWays", name := "plug", desc := "(IIII)Z" } : Jvm.MethodName) prog_1_method_3_code (5 : Nat) (Option.some Jvm.ClassFile.FieldType.boolean)) ∈ lw_all := lw_g (lw_at lw_m1 54 rfl) rfl
theorem q73 : (Jvm.Cond.methodLink "WireWays" (46 : Nat) ({ cls := "WireWays", name := "isPort", desc := "(II)Z" } : Jvm.MethodName)) ∈ lw_all := lw_g (lw_at lw_m1 55 rfl) rfl
theorem q74 : (Jvm.Cond.privateMethod ({ cls := "WireWays", name := "isPort", desc := "(II)Z" } : Jvm.MethodName)) ∈ lw_tbl := lw_at lw_m1 56 rfl
theorem q75 : (Jvm.Cond.instanceMethod ({ cls := "WireWays", name := "isPort", desc := "(II)Z" } : Jvm.MethodName)) ∈ lw_all := lw_g (lw_at lw_m1 57 rfl) rfl
theorem q76 : (Jvm.Cond.code ({ cls := "WireWays", name := "isPort", desc := "(II)Z" } : Jvm.MethodName) prog_1_method_2_code (3 : Nat) (Option.some Jvm.ClassFile.FieldType.boolean)) ∈ lw_all := lw_g (lw_at lw_m1 58 rfl) rfl
theorem q78 : (Jvm.Cond.instanceMethod ({ cls := "WireWays", name := "draw", desc := "(II)Z" } : Jvm.MethodName)) ∈ lw_all := lw_g (lw_at lw_m1 60 rfl) rfl
theorem q79 : (Jvm.Cond.selects "WireWays" ({ cls := "WireWays", name := "draw", desc := "(II)Z" } : Jvm.MethodName) ({ cls := "WireWays", name := "draw", desc := "(II)Z" } : Jvm.MethodName)) ∈ lw_all := lw_g (lw_at lw_m1 61 rfl) rfl
theorem q80 : (Jvm.Cond.code ({ cls := "WireWays", name := "draw", desc := "(II)Z" } : Jvm.MethodName) prog_1_method_4_code (3 : Nat) (Option.some Jvm.ClassFile.FieldType.boolean)) ∈ lw_all := lw_g (lw_at lw_m1 62 rfl) rfl
theorem q82 : (Jvm.Cond.instanceMethod ({ cls := "WireWays", name := "cost", desc := "(III)I" } : Jvm.MethodName)) ∈ lw_all := lw_g (lw_at lw_m1 64 rfl) rfl
theorem q83 : (Jvm.Cond.selects "WireWays" ({ cls := "WireWays", name := "cost", desc := "(III)I" } : Jvm.MethodName) ({ cls := "WireWays", name := "cost", desc := "(III)I" } : Jvm.MethodName)) ∈ lw_all := lw_g (lw_at lw_m1 65 rfl) rfl
theorem q84 : (Jvm.Cond.code ({ cls := "WireWays", name := "cost", desc := "(III)I" } : Jvm.MethodName) prog_1_method_5_code (5 : Nat) (Option.some Jvm.ClassFile.FieldType.int)) ∈ lw_all := lw_g (lw_at lw_m1 66 rfl) rfl
theorem q86 : (Jvm.Cond.instanceMethod ({ cls := "WireWays", name := "cut", desc := "(I)Z" } : Jvm.MethodName)) ∈ lw_all := lw_g (lw_at lw_m1 68 rfl) rfl
theorem q87 : (Jvm.Cond.selects "WireWays" ({ cls := "WireWays", name := "cut", desc := "(I)Z" } : Jvm.MethodName) ({ cls := "WireWays", name := "cut", desc := "(I)Z" } : Jvm.MethodName)) ∈ lw_all := lw_g (lw_at lw_m1 69 rfl) rfl
theorem q88 : (Jvm.Cond.code ({ cls := "WireWays", name := "cut", desc := "(I)Z" } : Jvm.MethodName) prog_1_method_7_code (2 : Nat) (Option.some Jvm.ClassFile.FieldType.boolean)) ∈ lw_all := lw_g (lw_at lw_m1 70 rfl) rfl
theorem q89 : (Jvm.Cond.methodLink "WireWays" (56 : Nat) ({ cls := "WireWays", name := "turn", desc := "(IZ)Z" } : Jvm.MethodName)) ∈ lw_all := lw_g (lw_at lw_m1 71 rfl) rfl
theorem q90 : (Jvm.Cond.privateMethod ({ cls := "WireWays", name := "turn", desc := "(IZ)Z" } : Jvm.MethodName)) ∈ lw_tbl := lw_at lw_m1 72 rfl
theorem q91 : (Jvm.Cond.instanceMethod ({ cls := "WireWays", name := "turn", desc := "(IZ)Z" } : Jvm.MethodName)) ∈ lw_all := lw_g (lw_at lw_m1 73 rfl) rfl
theorem q92 : (Jvm.Cond.code ({ cls := "WireWays", name := "turn", desc := "(IZ)Z" } : Jvm.MethodName) prog_1_method_6_code (3 : Nat) (Option.some Jvm.ClassFile.FieldType.boolean)) ∈ lw_all := lw_g (lw_at lw_m1 74 rfl) rfl
theorem q94 : (Jvm.Cond.instanceMethod ({ cls := "WireWays", name := "mend", desc := "(I)Z" } : Jvm.MethodName)) ∈ lw_all := lw_g (lw_at lw_m1 76 rfl) rfl
theorem q95 : (Jvm.Cond.selects "WireWays" ({ cls := "WireWays", name := "mend", desc := "(I)Z" } : Jvm.MethodName) ({ cls := "WireWays", name := "mend", desc := "(I)Z" } : Jvm.MethodName)) ∈ lw_all := lw_g (lw_at lw_m1 77 rfl) rfl
theorem q96 : (Jvm.Cond.code ({ cls := "WireWays", name := "mend", desc := "(I)Z" } : Jvm.MethodName) prog_1_method_8_code (2 : Nat) (Option.some Jvm.ClassFile.FieldType.boolean)) ∈ lw_all := lw_g (lw_at lw_m1 78 rfl) rfl
theorem q98 : (Jvm.Cond.instanceMethod ({ cls := "WireWays", name := "far", desc := "(IZI)I" } : Jvm.MethodName)) ∈ lw_all := lw_g (lw_at lw_m1 80 rfl) rfl
theorem q99 : (Jvm.Cond.selects "WireWays" ({ cls := "WireWays", name := "far", desc := "(IZI)I" } : Jvm.MethodName) ({ cls := "WireWays", name := "far", desc := "(IZI)I" } : Jvm.MethodName)) ∈ lw_all := lw_g (lw_at lw_m1 81 rfl) rfl
theorem q100 : (Jvm.Cond.code ({ cls := "WireWays", name := "far", desc := "(IZI)I" } : Jvm.MethodName) prog_1_method_15_code (5 : Nat) (Option.some Jvm.ClassFile.FieldType.int)) ∈ lw_all := lw_g (lw_at lw_m1 82 rfl) rfl
theorem q101 : (Jvm.Cond.methodLink "WireWays" (76 : Nat) ({ cls := "WireWays", name := "spot", desc := "(IZI)I" } : Jvm.MethodName)) ∈ lw_all := lw_g (lw_at lw_m1 83 rfl) rfl
theorem q102 : (Jvm.Cond.privateMethod ({ cls := "WireWays", name := "spot", desc := "(IZI)I" } : Jvm.MethodName)) ∈ lw_tbl := lw_at lw_m1 84 rfl
theorem q103 : (Jvm.Cond.instanceMethod ({ cls := "WireWays", name := "spot", desc := "(IZI)I" } : Jvm.MethodName)) ∈ lw_all := lw_g (lw_at lw_m1 85 rfl) rfl
theorem q104 : (Jvm.Cond.code ({ cls := "WireWays", name := "spot", desc := "(IZI)I" } : Jvm.MethodName) prog_1_method_14_code (5 : Nat) (Option.some Jvm.ClassFile.FieldType.int)) ∈ lw_all := lw_g (lw_at lw_m1 86 rfl) rfl
theorem q105 : (Jvm.Cond.methodLink "WireWays" (73 : Nat) ({ cls := "WireWays", name := "reckon", desc := "()V" } : Jvm.MethodName)) ∈ lw_all := lw_g (lw_at lw_m1 87 rfl) rfl
theorem q106 : (Jvm.Cond.privateMethod ({ cls := "WireWays", name := "reckon", desc := "()V" } : Jvm.MethodName)) ∈ lw_tbl := lw_at lw_m1 88 rfl
theorem q107 : (Jvm.Cond.instanceMethod ({ cls := "WireWays", name := "reckon", desc := "()V" } : Jvm.MethodName)) ∈ lw_all := lw_g (lw_at lw_m1 89 rfl) rfl
theorem q108 : (Jvm.Cond.code ({ cls := "WireWays", name := "reckon", desc := "()V" } : Jvm.MethodName) prog_1_method_13_code (5 : Nat) (Option.none : Option Jvm.ClassFile.FieldType)) ∈ lw_all := lw_g (lw_at lw_m1 90 rfl) rfl
theorem q109 : (Jvm.Cond.methodLink "WireWays" (63 : Nat) ({ cls := "WireWays", name := "direct", desc := "(II)I" } : Jvm.MethodName)) ∈ lw_all := lw_g (lw_at lw_m1 91 rfl) rfl
theorem q110 : (Jvm.Cond.privateMethod ({ cls := "WireWays", name := "direct", desc := "(II)I" } : Jvm.MethodName)) ∈ lw_tbl := lw_at lw_m1 92 rfl
theorem q111 : (Jvm.Cond.instanceMethod ({ cls := "WireWays", name := "direct", desc := "(II)I" } : Jvm.MethodName)) ∈ lw_all := lw_g (lw_at lw_m1 93 rfl) rfl
theorem q112 : (Jvm.Cond.code ({ cls := "WireWays", name := "direct", desc := "(II)I" } : Jvm.MethodName) prog_1_method_9_code (4 : Nat) (Option.some Jvm.ClassFile.FieldType.int)) ∈ lw_all := lw_g (lw_at lw_m1 94 rfl) rfl
theorem q113 : (Jvm.Cond.methodLink "WireWays" (66 : Nat) ({ cls := "WireWays", name := "better", desc := "(I)Z" } : Jvm.MethodName)) ∈ lw_all := lw_g (lw_at lw_m1 95 rfl) rfl
theorem q114 : (Jvm.Cond.privateMethod ({ cls := "WireWays", name := "better", desc := "(I)Z" } : Jvm.MethodName)) ∈ lw_tbl := lw_at lw_m1 96 rfl
theorem q115 : (Jvm.Cond.instanceMethod ({ cls := "WireWays", name := "better", desc := "(I)Z" } : Jvm.MethodName)) ∈ lw_all := lw_g (lw_at lw_m1 97 rfl) rfl
theorem q116 : (Jvm.Cond.code ({ cls := "WireWays", name := "better", desc := "(I)Z" } : Jvm.MethodName) prog_1_method_11_code (8 : Nat) (Option.some Jvm.ClassFile.FieldType.boolean)) ∈ lw_all := lw_g (lw_at lw_m1 98 rfl) rfl
theorem q117 : (Jvm.Cond.methodLink "WireWays" (60 : Nat) ({ cls := "WireWays", name := "isUp", desc := "(II)Z" } : Jvm.MethodName)) ∈ lw_all := lw_g (lw_at lw_m1 99 rfl) rfl
theorem q118 : (Jvm.Cond.privateMethod ({ cls := "WireWays", name := "isUp", desc := "(II)Z" } : Jvm.MethodName)) ∈ lw_tbl := lw_at lw_m1 100 rfl
theorem q119 : (Jvm.Cond.instanceMethod ({ cls := "WireWays", name := "isUp", desc := "(II)Z" } : Jvm.MethodName)) ∈ lw_all := lw_g (lw_at lw_m1 101 rfl) rfl
theorem q120 : (Jvm.Cond.code ({ cls := "WireWays", name := "isUp", desc := "(II)Z" } : Jvm.MethodName) prog_1_method_10_code (4 : Nat) (Option.some Jvm.ClassFile.FieldType.boolean)) ∈ lw_all := lw_g (lw_at lw_m1 102 rfl) rfl
theorem q121 : (Jvm.Cond.methodLink "WireWays" (70 : Nat) ({ cls := "WireWays", name := "best", desc := "(II)I" } : Jvm.MethodName)) ∈ lw_all := lw_g (lw_at lw_m1 103 rfl) rfl
theorem q122 : (Jvm.Cond.privateMethod ({ cls := "WireWays", name := "best", desc := "(II)I" } : Jvm.MethodName)) ∈ lw_tbl := lw_at lw_m1 104 rfl
theorem q123 : (Jvm.Cond.instanceMethod ({ cls := "WireWays", name := "best", desc := "(II)I" } : Jvm.MethodName)) ∈ lw_all := lw_g (lw_at lw_m1 105 rfl) rfl
theorem q124 : (Jvm.Cond.code ({ cls := "WireWays", name := "best", desc := "(II)I" } : Jvm.MethodName) prog_1_method_12_code (9 : Nat) (Option.some Jvm.ClassFile.FieldType.int)) ∈ lw_all := lw_g (lw_at lw_m1 106 rfl) rfl
theorem q126 : (Jvm.Cond.instanceMethod ({ cls := "WireWays", name := "port", desc := "(IZI)I" } : Jvm.MethodName)) ∈ lw_all := lw_g (lw_at lw_m1 108 rfl) rfl
theorem q127 : (Jvm.Cond.selects "WireWays" ({ cls := "WireWays", name := "port", desc := "(IZI)I" } : Jvm.MethodName) ({ cls := "WireWays", name := "port", desc := "(IZI)I" } : Jvm.MethodName)) ∈ lw_all := lw_g (lw_at lw_m1 109 rfl) rfl
theorem q128 : (Jvm.Cond.code ({ cls := "WireWays", name := "port", desc := "(IZI)I" } : Jvm.MethodName) prog_1_method_16_code (5 : Nat) (Option.some Jvm.ClassFile.FieldType.int)) ∈ lw_all := lw_g (lw_at lw_m1 110 rfl) rfl
theorem q130 : (Jvm.Cond.instanceMethod ({ cls := "WireWays", name := "next", desc := "(IZI)I" } : Jvm.MethodName)) ∈ lw_all := lw_g (lw_at lw_m1 112 rfl) rfl
theorem q131 : (Jvm.Cond.selects "WireWays" ({ cls := "WireWays", name := "next", desc := "(IZI)I" } : Jvm.MethodName) ({ cls := "WireWays", name := "next", desc := "(IZI)I" } : Jvm.MethodName)) ∈ lw_all := lw_g (lw_at lw_m1 113 rfl) rfl
theorem q132 : (Jvm.Cond.code ({ cls := "WireWays", name := "next", desc := "(IZI)I" } : Jvm.MethodName) prog_1_method_17_code (5 : Nat) (Option.some Jvm.ClassFile.FieldType.int)) ∈ lw_all := lw_g (lw_at lw_m1 114 rfl) rfl
theorem q134 : (Jvm.Cond.instanceMethod ({ cls := "WireWays", name := "walk", desc := "(IZII)I" } : Jvm.MethodName)) ∈ lw_all := lw_g (lw_at lw_m1 116 rfl) rfl
theorem q135 : (Jvm.Cond.selects "WireWays" ({ cls := "WireWays", name := "walk", desc := "(IZII)I" } : Jvm.MethodName) ({ cls := "WireWays", name := "walk", desc := "(IZII)I" } : Jvm.MethodName)) ∈ lw_all := lw_g (lw_at lw_m1 117 rfl) rfl
theorem q136 : (Jvm.Cond.code ({ cls := "WireWays", name := "walk", desc := "(IZII)I" } : Jvm.MethodName) prog_1_method_18_code (7 : Nat) (Option.some Jvm.ClassFile.FieldType.int)) ∈ lw_all := lw_g (lw_at lw_m1 118 rfl) rfl
theorem q137 : (Jvm.Cond.methodLink "WireWays" (80 : Nat) ({ cls := "WireWays", name := "far", desc := "(IZI)I" } : Jvm.MethodName)) ∈ lw_all := lw_g (lw_at lw_m1 119 rfl) rfl
theorem q138 : (Jvm.Cond.methodLink "WireWays" (82 : Nat) ({ cls := "WireWays", name := "next", desc := "(IZI)I" } : Jvm.MethodName)) ∈ lw_all := lw_g (lw_at lw_m1 120 rfl) rfl
theorem q140 : (Jvm.Cond.instanceMethod ({ cls := "WireWays", name := "reach", desc := "(I)I" } : Jvm.MethodName)) ∈ lw_all := lw_g (lw_at lw_m1 122 rfl) rfl
theorem q141 : (Jvm.Cond.selects "WireWays" ({ cls := "WireWays", name := "reach", desc := "(I)I" } : Jvm.MethodName) ({ cls := "WireWays", name := "reach", desc := "(I)I" } : Jvm.MethodName)) ∈ lw_all := lw_g (lw_at lw_m1 123 rfl) rfl
theorem q142 : (Jvm.Cond.code ({ cls := "WireWays", name := "reach", desc := "(I)I" } : Jvm.MethodName) prog_1_method_19_code (4 : Nat) (Option.some Jvm.ClassFile.FieldType.int)) ∈ lw_all := lw_g (lw_at lw_m1 124 rfl) rfl
theorem q144 : (Jvm.Cond.instanceMethod ({ cls := "WireWays", name := "count", desc := "(I)I" } : Jvm.MethodName)) ∈ lw_all := lw_g (lw_at lw_m1 126 rfl) rfl
theorem q145 : (Jvm.Cond.selects "WireWays" ({ cls := "WireWays", name := "count", desc := "(I)I" } : Jvm.MethodName) ({ cls := "WireWays", name := "count", desc := "(I)I" } : Jvm.MethodName)) ∈ lw_all := lw_g (lw_at lw_m1 127 rfl) rfl
theorem q146 : (Jvm.Cond.code ({ cls := "WireWays", name := "count", desc := "(I)I" } : Jvm.MethodName) prog_1_method_21_code (2 : Nat) (Option.some Jvm.ClassFile.FieldType.int)) ∈ lw_all := lw_g (lw_at lw_m1 128 rfl) rfl
theorem q147 : (Jvm.Cond.methodLink "WireWays" (85 : Nat) ({ cls := "WireWays", name := "greatest", desc := "()I" } : Jvm.MethodName)) ∈ lw_all := lw_g (lw_at lw_m1 129 rfl) rfl
theorem q148 : (Jvm.Cond.privateMethod ({ cls := "WireWays", name := "greatest", desc := "()I" } : Jvm.MethodName)) ∈ lw_tbl := lw_at lw_m1 130 rfl
theorem q149 : (Jvm.Cond.instanceMethod ({ cls := "WireWays", name := "greatest", desc := "()I" } : Jvm.MethodName)) ∈ lw_all := lw_g (lw_at lw_m1 131 rfl) rfl
theorem q150 : (Jvm.Cond.code ({ cls := "WireWays", name := "greatest", desc := "()I" } : Jvm.MethodName) prog_1_method_20_code (4 : Nat) (Option.some Jvm.ClassFile.FieldType.int)) ∈ lw_all := lw_g (lw_at lw_m1 132 rfl) rfl
theorem in_X1 : ∀ w ∈ wsX10, w ∈ lw_all := lw_in wsX10 [46, 48, 50, 52, 54, 56, 58, 60, 62, 64] (by decide +kernel) (by decide +kernel)
end
section
/-! WireWaysModel -/
set_option maxRecDepth 100000
def RX2 : String := "WireWaysModel"
def TX2 : u_T := fun k => match k with
  | 0 => ("WireWaysModel", "routers", "I", true)
  | 1 => ("WireWaysModel", "wireOf", "[I", true)
  | 2 => ("WireWaysModel", "costOf", "[I", true)
  | 3 => ("WireWaysModel", "isCut", "[Z", true)
  | 4 => ("WireWaysModel", "distance", "[I", true)
  | 5 => ("WireWaysModel", "wayPort", "I", false)
  | _ => ("WireWaysModel", "wayRouter", "I", false)
def tyX2 : Nat → FieldType := fun k => match k with
  | 0 => .int
  | 1 => .array .int
  | 2 => .array .int
  | 3 => .array .boolean
  | 4 => .array .int
  | 5 => .int
  | _ => .int
abbrev wsX20 : List Cond := u_ws RX2 TX2 7
theorem nmX2 : ∀ a, a < 7 → ∀ b, b < 7 → a ≠ b → (TX2 a).2.1 ≠ (TX2 b).2.1 := by decide +kernel
theorem tyX2_ok : ∀ k, k < 7 → parseFieldDescriptor (TX2 k).2.2.1 = some (tyX2 k) := by decide +kernel
abbrev cX2_init : ByteArray := prog_3_method_1_code
def yX2_init : MethodName := ⟨RX2, "<init>", "(I)V"⟩
theorem dX2_init_0 : decode cX2_init 0 = .ok (.aload_n 0, 1) := by decide +kernel
theorem dX2_init_1 : decode cX2_init 1 = .ok (.invokespecial 1, 3) := by decide +kernel
theorem dX2_init_4 : decode cX2_init 4 = .ok (.aload_n 0, 1) := by decide +kernel
theorem dX2_init_5 : decode cX2_init 5 = .ok (.bipush 40, 2) := by decide +kernel
theorem dX2_init_7 : decode cX2_init 7 = .ok (.newarray .int, 2) := by decide +kernel
theorem dX2_init_9 : decode cX2_init 9 = .ok (.putfield 7, 3) := by decide +kernel
theorem dX2_init_12 : decode cX2_init 12 = .ok (.aload_n 0, 1) := by decide +kernel
theorem dX2_init_13 : decode cX2_init 13 = .ok (.bipush 40, 2) := by decide +kernel
theorem dX2_init_15 : decode cX2_init 15 = .ok (.newarray .int, 2) := by decide +kernel
theorem dX2_init_17 : decode cX2_init 17 = .ok (.putfield 13, 3) := by decide +kernel
theorem dX2_init_20 : decode cX2_init 20 = .ok (.aload_n 0, 1) := by decide +kernel
theorem dX2_init_21 : decode cX2_init 21 = .ok (.bipush 16, 2) := by decide +kernel
theorem dX2_init_23 : decode cX2_init 23 = .ok (.newarray .boolean, 2) := by decide +kernel
theorem dX2_init_25 : decode cX2_init 25 = .ok (.putfield 16, 3) := by decide +kernel
theorem dX2_init_28 : decode cX2_init 28 = .ok (.aload_n 0, 1) := by decide +kernel
theorem dX2_init_29 : decode cX2_init 29 = .ok (.bipush 10, 2) := by decide +kernel
theorem dX2_init_31 : decode cX2_init 31 = .ok (.newarray .int, 2) := by decide +kernel
theorem dX2_init_33 : decode cX2_init 33 = .ok (.putfield 20, 3) := by decide +kernel
theorem dX2_init_36 : decode cX2_init 36 = .ok (.aload_n 0, 1) := by decide +kernel
theorem dX2_init_37 : decode cX2_init 37 = .ok (.iload_n 1, 1) := by decide +kernel
theorem dX2_init_38 : decode cX2_init 38 = .ok (.iconst 1, 1) := by decide +kernel
theorem dX2_init_39 : decode cX2_init 39 = .ok (.if_icmp .ge 7, 3) := by decide +kernel
theorem dX2_init_42 : decode cX2_init 42 = .ok (.iconst 1, 1) := by decide +kernel
theorem dX2_init_43 : decode cX2_init 43 = .ok (.goto 15, 3) := by decide +kernel
theorem dX2_init_46 : decode cX2_init 46 = .ok (.iload_n 1, 1) := by decide +kernel
theorem dX2_init_47 : decode cX2_init 47 = .ok (.bipush 10, 2) := by decide +kernel
theorem dX2_init_49 : decode cX2_init 49 = .ok (.if_icmp .le 8, 3) := by decide +kernel
theorem dX2_init_52 : decode cX2_init 52 = .ok (.bipush 10, 2) := by decide +kernel
theorem dX2_init_54 : decode cX2_init 54 = .ok (.goto 4, 3) := by decide +kernel
theorem dX2_init_57 : decode cX2_init 57 = .ok (.iload_n 1, 1) := by decide +kernel
theorem dX2_init_58 : decode cX2_init 58 = .ok (.putfield 23, 3) := by decide +kernel
theorem dX2_init_61 : decode cX2_init 61 = .ok (.iconst 0, 1) := by decide +kernel
theorem dX2_init_62 : decode cX2_init 62 = .ok (.istore_n 2, 1) := by decide +kernel
theorem dX2_init_63 : decode cX2_init 63 = .ok (.iload_n 2, 1) := by decide +kernel
theorem dX2_init_64 : decode cX2_init 64 = .ok (.bipush 40, 2) := by decide +kernel
theorem dX2_init_66 : decode cX2_init 66 = .ok (.if_icmp .ge 16, 3) := by decide +kernel
theorem dX2_init_69 : decode cX2_init 69 = .ok (.aload_n 0, 1) := by decide +kernel
theorem dX2_init_70 : decode cX2_init 70 = .ok (.getfield 7, 3) := by decide +kernel
theorem dX2_init_73 : decode cX2_init 73 = .ok (.iload_n 2, 1) := by decide +kernel
theorem dX2_init_74 : decode cX2_init 74 = .ok (.iconst (-1), 1) := by decide +kernel
theorem dX2_init_75 : decode cX2_init 75 = .ok (.iastore, 1) := by decide +kernel
theorem dX2_init_76 : decode cX2_init 76 = .ok (.iinc 2 1, 3) := by decide +kernel
theorem dX2_init_79 : decode cX2_init 79 = .ok (.goto (-16), 3) := by decide +kernel
theorem dX2_init_82 : decode cX2_init 82 = .ok (.return_, 1) := by decide +kernel
abbrev cX2_plug : ByteArray := prog_3_method_7_code
def yX2_plug : MethodName := ⟨RX2, "plug", "(IIII)Z"⟩
theorem dX2_plug_0 : decode cX2_plug 0 = .ok (.aload_n 0, 1) := by decide +kernel
theorem dX2_plug_1 : decode cX2_plug 1 = .ok (.iload_n 1, 1) := by decide +kernel
theorem dX2_plug_2 : decode cX2_plug 2 = .ok (.iload_n 2, 1) := by decide +kernel
theorem dX2_plug_3 : decode cX2_plug 3 = .ok (.invokevirtual 31, 3) := by decide +kernel
theorem dX2_plug_6 : decode cX2_plug 6 = .ok (.ifCond .eq 23, 3) := by decide +kernel
theorem dX2_plug_9 : decode cX2_plug 9 = .ok (.iload_n 3, 1) := by decide +kernel
theorem dX2_plug_10 : decode cX2_plug 10 = .ok (.invokestatic 35, 3) := by decide +kernel
theorem dX2_plug_13 : decode cX2_plug 13 = .ok (.ifCond .eq 16, 3) := by decide +kernel
theorem dX2_plug_16 : decode cX2_plug 16 = .ok (.iload 4, 2) := by decide +kernel
theorem dX2_plug_18 : decode cX2_plug 18 = .ok (.iconst 1, 1) := by decide +kernel
theorem dX2_plug_19 : decode cX2_plug 19 = .ok (.if_icmp .lt 10, 3) := by decide +kernel
theorem dX2_plug_22 : decode cX2_plug 22 = .ok (.iload 4, 2) := by decide +kernel
theorem dX2_plug_24 : decode cX2_plug 24 = .ok (.bipush 9, 2) := by decide +kernel
theorem dX2_plug_26 : decode cX2_plug 26 = .ok (.if_icmp .le 5, 3) := by decide +kernel
theorem dX2_plug_29 : decode cX2_plug 29 = .ok (.iconst 0, 1) := by decide +kernel
theorem dX2_plug_30 : decode cX2_plug 30 = .ok (.ireturn, 1) := by decide +kernel
theorem dX2_plug_31 : decode cX2_plug 31 = .ok (.aload_n 0, 1) := by decide +kernel
theorem dX2_plug_32 : decode cX2_plug 32 = .ok (.getfield 7, 3) := by decide +kernel
theorem dX2_plug_35 : decode cX2_plug 35 = .ok (.iconst 4, 1) := by decide +kernel
theorem dX2_plug_36 : decode cX2_plug 36 = .ok (.iload_n 1, 1) := by decide +kernel
theorem dX2_plug_37 : decode cX2_plug 37 = .ok (.imul, 1) := by decide +kernel
theorem dX2_plug_38 : decode cX2_plug 38 = .ok (.iload_n 2, 1) := by decide +kernel
theorem dX2_plug_39 : decode cX2_plug 39 = .ok (.iadd, 1) := by decide +kernel
theorem dX2_plug_40 : decode cX2_plug 40 = .ok (.iaload, 1) := by decide +kernel
theorem dX2_plug_41 : decode cX2_plug 41 = .ok (.iconst (-1), 1) := by decide +kernel
theorem dX2_plug_42 : decode cX2_plug 42 = .ok (.if_icmp .ne 13, 3) := by decide +kernel
theorem dX2_plug_45 : decode cX2_plug 45 = .ok (.aload_n 0, 1) := by decide +kernel
theorem dX2_plug_46 : decode cX2_plug 46 = .ok (.iload_n 1, 1) := by decide +kernel
theorem dX2_plug_47 : decode cX2_plug 47 = .ok (.iload_n 3, 1) := by decide +kernel
theorem dX2_plug_48 : decode cX2_plug 48 = .ok (.invokevirtual 38, 3) := by decide +kernel
theorem dX2_plug_51 : decode cX2_plug 51 = .ok (.iconst (-1), 1) := by decide +kernel
theorem dX2_plug_52 : decode cX2_plug 52 = .ok (.if_icmp .eq 5, 3) := by decide +kernel
theorem dX2_plug_55 : decode cX2_plug 55 = .ok (.iconst 0, 1) := by decide +kernel
theorem dX2_plug_56 : decode cX2_plug 56 = .ok (.ireturn, 1) := by decide +kernel
theorem dX2_plug_57 : decode cX2_plug 57 = .ok (.aload_n 0, 1) := by decide +kernel
theorem dX2_plug_58 : decode cX2_plug 58 = .ok (.getfield 7, 3) := by decide +kernel
theorem dX2_plug_61 : decode cX2_plug 61 = .ok (.iconst 4, 1) := by decide +kernel
theorem dX2_plug_62 : decode cX2_plug 62 = .ok (.iload_n 1, 1) := by decide +kernel
theorem dX2_plug_63 : decode cX2_plug 63 = .ok (.imul, 1) := by decide +kernel
theorem dX2_plug_64 : decode cX2_plug 64 = .ok (.iload_n 2, 1) := by decide +kernel
theorem dX2_plug_65 : decode cX2_plug 65 = .ok (.iadd, 1) := by decide +kernel
theorem dX2_plug_66 : decode cX2_plug 66 = .ok (.iload_n 3, 1) := by decide +kernel
theorem dX2_plug_67 : decode cX2_plug 67 = .ok (.iastore, 1) := by decide +kernel
theorem dX2_plug_68 : decode cX2_plug 68 = .ok (.aload_n 0, 1) := by decide +kernel
theorem dX2_plug_69 : decode cX2_plug 69 = .ok (.getfield 13, 3) := by decide +kernel
theorem dX2_plug_72 : decode cX2_plug 72 = .ok (.iconst 4, 1) := by decide +kernel
theorem dX2_plug_73 : decode cX2_plug 73 = .ok (.iload_n 1, 1) := by decide +kernel
theorem dX2_plug_74 : decode cX2_plug 74 = .ok (.imul, 1) := by decide +kernel
theorem dX2_plug_75 : decode cX2_plug 75 = .ok (.iload_n 2, 1) := by decide +kernel
theorem dX2_plug_76 : decode cX2_plug 76 = .ok (.iadd, 1) := by decide +kernel
theorem dX2_plug_77 : decode cX2_plug 77 = .ok (.iload 4, 2) := by decide +kernel
theorem dX2_plug_79 : decode cX2_plug 79 = .ok (.iastore, 1) := by decide +kernel
theorem dX2_plug_80 : decode cX2_plug 80 = .ok (.iconst 1, 1) := by decide +kernel
theorem dX2_plug_81 : decode cX2_plug 81 = .ok (.ireturn, 1) := by decide +kernel
abbrev cX2_isPlace : ByteArray := prog_3_method_5_code
def yX2_isPlace : MethodName := ⟨RX2, "isPlace", "(II)Z"⟩
theorem dX2_isPlace_0 : decode cX2_isPlace 0 = .ok (.aload_n 0, 1) := by decide +kernel
theorem dX2_isPlace_1 : decode cX2_isPlace 1 = .ok (.iload_n 1, 1) := by decide +kernel
theorem dX2_isPlace_2 : decode cX2_isPlace 2 = .ok (.invokevirtual 27, 3) := by decide +kernel
theorem dX2_isPlace_5 : decode cX2_isPlace 5 = .ok (.ifCond .eq 16, 3) := by decide +kernel
theorem dX2_isPlace_8 : decode cX2_isPlace 8 = .ok (.iload_n 2, 1) := by decide +kernel
theorem dX2_isPlace_9 : decode cX2_isPlace 9 = .ok (.ifCond .lt 12, 3) := by decide +kernel
theorem dX2_isPlace_12 : decode cX2_isPlace 12 = .ok (.iload_n 2, 1) := by decide +kernel
theorem dX2_isPlace_13 : decode cX2_isPlace 13 = .ok (.iconst 4, 1) := by decide +kernel
theorem dX2_isPlace_14 : decode cX2_isPlace 14 = .ok (.if_icmp .ge 7, 3) := by decide +kernel
theorem dX2_isPlace_17 : decode cX2_isPlace 17 = .ok (.iconst 1, 1) := by decide +kernel
theorem dX2_isPlace_18 : decode cX2_isPlace 18 = .ok (.goto 4, 3) := by decide +kernel
theorem dX2_isPlace_21 : decode cX2_isPlace 21 = .ok (.iconst 0, 1) := by decide +kernel
theorem dX2_isPlace_22 : decode cX2_isPlace 22 = .ok (.ireturn, 1) := by decide +kernel
abbrev cX2_isRouter : ByteArray := prog_3_method_3_code
def yX2_isRouter : MethodName := ⟨RX2, "isRouter", "(I)Z"⟩
theorem dX2_isRouter_0 : decode cX2_isRouter 0 = .ok (.iload_n 1, 1) := by decide +kernel
theorem dX2_isRouter_1 : decode cX2_isRouter 1 = .ok (.ifCond .lt 15, 3) := by decide +kernel
theorem dX2_isRouter_4 : decode cX2_isRouter 4 = .ok (.iload_n 1, 1) := by decide +kernel
theorem dX2_isRouter_5 : decode cX2_isRouter 5 = .ok (.aload_n 0, 1) := by decide +kernel
theorem dX2_isRouter_6 : decode cX2_isRouter 6 = .ok (.getfield 23, 3) := by decide +kernel
theorem dX2_isRouter_9 : decode cX2_isRouter 9 = .ok (.if_icmp .ge 7, 3) := by decide +kernel
theorem dX2_isRouter_12 : decode cX2_isRouter 12 = .ok (.iconst 1, 1) := by decide +kernel
theorem dX2_isRouter_13 : decode cX2_isRouter 13 = .ok (.goto 4, 3) := by decide +kernel
theorem dX2_isRouter_16 : decode cX2_isRouter 16 = .ok (.iconst 0, 1) := by decide +kernel
theorem dX2_isRouter_17 : decode cX2_isRouter 17 = .ok (.ireturn, 1) := by decide +kernel
abbrev cX2_isWire : ByteArray := prog_3_method_4_code
def yX2_isWire : MethodName := ⟨RX2, "isWire", "(I)Z"⟩
theorem dX2_isWire_0 : decode cX2_isWire 0 = .ok (.iload_n 0, 1) := by decide +kernel
theorem dX2_isWire_1 : decode cX2_isWire 1 = .ok (.ifCond .lt 13, 3) := by decide +kernel
theorem dX2_isWire_4 : decode cX2_isWire 4 = .ok (.iload_n 0, 1) := by decide +kernel
theorem dX2_isWire_5 : decode cX2_isWire 5 = .ok (.bipush 16, 2) := by decide +kernel
theorem dX2_isWire_7 : decode cX2_isWire 7 = .ok (.if_icmp .ge 7, 3) := by decide +kernel
theorem dX2_isWire_10 : decode cX2_isWire 10 = .ok (.iconst 1, 1) := by decide +kernel
theorem dX2_isWire_11 : decode cX2_isWire 11 = .ok (.goto 4, 3) := by decide +kernel
theorem dX2_isWire_14 : decode cX2_isWire 14 = .ok (.iconst 0, 1) := by decide +kernel
theorem dX2_isWire_15 : decode cX2_isWire 15 = .ok (.ireturn, 1) := by decide +kernel
abbrev cX2_portOn : ByteArray := prog_3_method_6_code
def yX2_portOn : MethodName := ⟨RX2, "portOn", "(II)I"⟩
theorem dX2_portOn_0 : decode cX2_portOn 0 = .ok (.iconst 0, 1) := by decide +kernel
theorem dX2_portOn_1 : decode cX2_portOn 1 = .ok (.istore_n 3, 1) := by decide +kernel
theorem dX2_portOn_2 : decode cX2_portOn 2 = .ok (.iload_n 3, 1) := by decide +kernel
theorem dX2_portOn_3 : decode cX2_portOn 3 = .ok (.iconst 4, 1) := by decide +kernel
theorem dX2_portOn_4 : decode cX2_portOn 4 = .ok (.if_icmp .ge 25, 3) := by decide +kernel
theorem dX2_portOn_7 : decode cX2_portOn 7 = .ok (.aload_n 0, 1) := by decide +kernel
theorem dX2_portOn_8 : decode cX2_portOn 8 = .ok (.getfield 7, 3) := by decide +kernel
theorem dX2_portOn_11 : decode cX2_portOn 11 = .ok (.iconst 4, 1) := by decide +kernel
theorem dX2_portOn_12 : decode cX2_portOn 12 = .ok (.iload_n 1, 1) := by decide +kernel
theorem dX2_portOn_13 : decode cX2_portOn 13 = .ok (.imul, 1) := by decide +kernel
theorem dX2_portOn_14 : decode cX2_portOn 14 = .ok (.iload_n 3, 1) := by decide +kernel
theorem dX2_portOn_15 : decode cX2_portOn 15 = .ok (.iadd, 1) := by decide +kernel
theorem dX2_portOn_16 : decode cX2_portOn 16 = .ok (.iaload, 1) := by decide +kernel
theorem dX2_portOn_17 : decode cX2_portOn 17 = .ok (.iload_n 2, 1) := by decide +kernel
theorem dX2_portOn_18 : decode cX2_portOn 18 = .ok (.if_icmp .ne 5, 3) := by decide +kernel
theorem dX2_portOn_21 : decode cX2_portOn 21 = .ok (.iload_n 3, 1) := by decide +kernel
theorem dX2_portOn_22 : decode cX2_portOn 22 = .ok (.ireturn, 1) := by decide +kernel
theorem dX2_portOn_23 : decode cX2_portOn 23 = .ok (.iinc 3 1, 3) := by decide +kernel
theorem dX2_portOn_26 : decode cX2_portOn 26 = .ok (.goto (-24), 3) := by decide +kernel
theorem dX2_portOn_29 : decode cX2_portOn 29 = .ok (.iconst (-1), 1) := by decide +kernel
theorem dX2_portOn_30 : decode cX2_portOn 30 = .ok (.ireturn, 1) := by decide +kernel
abbrev cX2_draw : ByteArray := prog_3_method_8_code
def yX2_draw : MethodName := ⟨RX2, "draw", "(II)Z"⟩
theorem dX2_draw_0 : decode cX2_draw 0 = .ok (.aload_n 0, 1) := by decide +kernel
theorem dX2_draw_1 : decode cX2_draw 1 = .ok (.iload_n 1, 1) := by decide +kernel
theorem dX2_draw_2 : decode cX2_draw 2 = .ok (.iload_n 2, 1) := by decide +kernel
theorem dX2_draw_3 : decode cX2_draw 3 = .ok (.invokevirtual 31, 3) := by decide +kernel
theorem dX2_draw_6 : decode cX2_draw 6 = .ok (.ifCond .eq 17, 3) := by decide +kernel
theorem dX2_draw_9 : decode cX2_draw 9 = .ok (.aload_n 0, 1) := by decide +kernel
theorem dX2_draw_10 : decode cX2_draw 10 = .ok (.getfield 7, 3) := by decide +kernel
theorem dX2_draw_13 : decode cX2_draw 13 = .ok (.iconst 4, 1) := by decide +kernel
theorem dX2_draw_14 : decode cX2_draw 14 = .ok (.iload_n 1, 1) := by decide +kernel
theorem dX2_draw_15 : decode cX2_draw 15 = .ok (.imul, 1) := by decide +kernel
theorem dX2_draw_16 : decode cX2_draw 16 = .ok (.iload_n 2, 1) := by decide +kernel
theorem dX2_draw_17 : decode cX2_draw 17 = .ok (.iadd, 1) := by decide +kernel
theorem dX2_draw_18 : decode cX2_draw 18 = .ok (.iaload, 1) := by decide +kernel
theorem dX2_draw_19 : decode cX2_draw 19 = .ok (.iconst (-1), 1) := by decide +kernel
theorem dX2_draw_20 : decode cX2_draw 20 = .ok (.if_icmp .ne 5, 3) := by decide +kernel
theorem dX2_draw_23 : decode cX2_draw 23 = .ok (.iconst 0, 1) := by decide +kernel
theorem dX2_draw_24 : decode cX2_draw 24 = .ok (.ireturn, 1) := by decide +kernel
theorem dX2_draw_25 : decode cX2_draw 25 = .ok (.aload_n 0, 1) := by decide +kernel
theorem dX2_draw_26 : decode cX2_draw 26 = .ok (.getfield 7, 3) := by decide +kernel
theorem dX2_draw_29 : decode cX2_draw 29 = .ok (.iconst 4, 1) := by decide +kernel
theorem dX2_draw_30 : decode cX2_draw 30 = .ok (.iload_n 1, 1) := by decide +kernel
theorem dX2_draw_31 : decode cX2_draw 31 = .ok (.imul, 1) := by decide +kernel
theorem dX2_draw_32 : decode cX2_draw 32 = .ok (.iload_n 2, 1) := by decide +kernel
theorem dX2_draw_33 : decode cX2_draw 33 = .ok (.iadd, 1) := by decide +kernel
theorem dX2_draw_34 : decode cX2_draw 34 = .ok (.iconst (-1), 1) := by decide +kernel
theorem dX2_draw_35 : decode cX2_draw 35 = .ok (.iastore, 1) := by decide +kernel
theorem dX2_draw_36 : decode cX2_draw 36 = .ok (.iconst 1, 1) := by decide +kernel
theorem dX2_draw_37 : decode cX2_draw 37 = .ok (.ireturn, 1) := by decide +kernel
abbrev cX2_cost : ByteArray := prog_3_method_9_code
def yX2_cost : MethodName := ⟨RX2, "cost", "(III)I"⟩
theorem dX2_cost_0 : decode cX2_cost 0 = .ok (.aload_n 0, 1) := by decide +kernel
theorem dX2_cost_1 : decode cX2_cost 1 = .ok (.iload_n 1, 1) := by decide +kernel
theorem dX2_cost_2 : decode cX2_cost 2 = .ok (.iload_n 2, 1) := by decide +kernel
theorem dX2_cost_3 : decode cX2_cost 3 = .ok (.invokevirtual 31, 3) := by decide +kernel
theorem dX2_cost_6 : decode cX2_cost 6 = .ok (.ifCond .eq 28, 3) := by decide +kernel
theorem dX2_cost_9 : decode cX2_cost 9 = .ok (.aload_n 0, 1) := by decide +kernel
theorem dX2_cost_10 : decode cX2_cost 10 = .ok (.getfield 7, 3) := by decide +kernel
theorem dX2_cost_13 : decode cX2_cost 13 = .ok (.iconst 4, 1) := by decide +kernel
theorem dX2_cost_14 : decode cX2_cost 14 = .ok (.iload_n 1, 1) := by decide +kernel
theorem dX2_cost_15 : decode cX2_cost 15 = .ok (.imul, 1) := by decide +kernel
theorem dX2_cost_16 : decode cX2_cost 16 = .ok (.iload_n 2, 1) := by decide +kernel
theorem dX2_cost_17 : decode cX2_cost 17 = .ok (.iadd, 1) := by decide +kernel
theorem dX2_cost_18 : decode cX2_cost 18 = .ok (.iaload, 1) := by decide +kernel
theorem dX2_cost_19 : decode cX2_cost 19 = .ok (.iconst (-1), 1) := by decide +kernel
theorem dX2_cost_20 : decode cX2_cost 20 = .ok (.if_icmp .eq 14, 3) := by decide +kernel
theorem dX2_cost_23 : decode cX2_cost 23 = .ok (.iload_n 3, 1) := by decide +kernel
theorem dX2_cost_24 : decode cX2_cost 24 = .ok (.iconst 1, 1) := by decide +kernel
theorem dX2_cost_25 : decode cX2_cost 25 = .ok (.if_icmp .lt 9, 3) := by decide +kernel
theorem dX2_cost_28 : decode cX2_cost 28 = .ok (.iload_n 3, 1) := by decide +kernel
theorem dX2_cost_29 : decode cX2_cost 29 = .ok (.bipush 9, 2) := by decide +kernel
theorem dX2_cost_31 : decode cX2_cost 31 = .ok (.if_icmp .le 5, 3) := by decide +kernel
theorem dX2_cost_34 : decode cX2_cost 34 = .ok (.iconst (-1), 1) := by decide +kernel
theorem dX2_cost_35 : decode cX2_cost 35 = .ok (.ireturn, 1) := by decide +kernel
theorem dX2_cost_36 : decode cX2_cost 36 = .ok (.aload_n 0, 1) := by decide +kernel
theorem dX2_cost_37 : decode cX2_cost 37 = .ok (.getfield 13, 3) := by decide +kernel
theorem dX2_cost_40 : decode cX2_cost 40 = .ok (.iconst 4, 1) := by decide +kernel
theorem dX2_cost_41 : decode cX2_cost 41 = .ok (.iload_n 1, 1) := by decide +kernel
theorem dX2_cost_42 : decode cX2_cost 42 = .ok (.imul, 1) := by decide +kernel
theorem dX2_cost_43 : decode cX2_cost 43 = .ok (.iload_n 2, 1) := by decide +kernel
theorem dX2_cost_44 : decode cX2_cost 44 = .ok (.iadd, 1) := by decide +kernel
theorem dX2_cost_45 : decode cX2_cost 45 = .ok (.iaload, 1) := by decide +kernel
theorem dX2_cost_46 : decode cX2_cost 46 = .ok (.istore 4, 2) := by decide +kernel
theorem dX2_cost_48 : decode cX2_cost 48 = .ok (.aload_n 0, 1) := by decide +kernel
theorem dX2_cost_49 : decode cX2_cost 49 = .ok (.getfield 13, 3) := by decide +kernel
theorem dX2_cost_52 : decode cX2_cost 52 = .ok (.iconst 4, 1) := by decide +kernel
theorem dX2_cost_53 : decode cX2_cost 53 = .ok (.iload_n 1, 1) := by decide +kernel
theorem dX2_cost_54 : decode cX2_cost 54 = .ok (.imul, 1) := by decide +kernel
theorem dX2_cost_55 : decode cX2_cost 55 = .ok (.iload_n 2, 1) := by decide +kernel
theorem dX2_cost_56 : decode cX2_cost 56 = .ok (.iadd, 1) := by decide +kernel
theorem dX2_cost_57 : decode cX2_cost 57 = .ok (.iload_n 3, 1) := by decide +kernel
theorem dX2_cost_58 : decode cX2_cost 58 = .ok (.iastore, 1) := by decide +kernel
theorem dX2_cost_59 : decode cX2_cost 59 = .ok (.iload 4, 2) := by decide +kernel
theorem dX2_cost_61 : decode cX2_cost 61 = .ok (.ireturn, 1) := by decide +kernel
abbrev cX2_cut : ByteArray := prog_3_method_10_code
def yX2_cut : MethodName := ⟨RX2, "cut", "(I)Z"⟩
theorem dX2_cut_0 : decode cX2_cut 0 = .ok (.iload_n 1, 1) := by decide +kernel
theorem dX2_cut_1 : decode cX2_cut 1 = .ok (.invokestatic 35, 3) := by decide +kernel
theorem dX2_cut_4 : decode cX2_cut 4 = .ok (.ifCond .eq 12, 3) := by decide +kernel
theorem dX2_cut_7 : decode cX2_cut 7 = .ok (.aload_n 0, 1) := by decide +kernel
theorem dX2_cut_8 : decode cX2_cut 8 = .ok (.getfield 16, 3) := by decide +kernel
theorem dX2_cut_11 : decode cX2_cut 11 = .ok (.iload_n 1, 1) := by decide +kernel
theorem dX2_cut_12 : decode cX2_cut 12 = .ok (.baload, 1) := by decide +kernel
theorem dX2_cut_13 : decode cX2_cut 13 = .ok (.ifCond .eq 5, 3) := by decide +kernel
theorem dX2_cut_16 : decode cX2_cut 16 = .ok (.iconst 0, 1) := by decide +kernel
theorem dX2_cut_17 : decode cX2_cut 17 = .ok (.ireturn, 1) := by decide +kernel
theorem dX2_cut_18 : decode cX2_cut 18 = .ok (.aload_n 0, 1) := by decide +kernel
theorem dX2_cut_19 : decode cX2_cut 19 = .ok (.getfield 16, 3) := by decide +kernel
theorem dX2_cut_22 : decode cX2_cut 22 = .ok (.iload_n 1, 1) := by decide +kernel
theorem dX2_cut_23 : decode cX2_cut 23 = .ok (.iconst 1, 1) := by decide +kernel
theorem dX2_cut_24 : decode cX2_cut 24 = .ok (.bastore, 1) := by decide +kernel
theorem dX2_cut_25 : decode cX2_cut 25 = .ok (.iconst 1, 1) := by decide +kernel
theorem dX2_cut_26 : decode cX2_cut 26 = .ok (.ireturn, 1) := by decide +kernel
abbrev cX2_mend : ByteArray := prog_3_method_11_code
def yX2_mend : MethodName := ⟨RX2, "mend", "(I)Z"⟩
theorem dX2_mend_0 : decode cX2_mend 0 = .ok (.iload_n 1, 1) := by decide +kernel
theorem dX2_mend_1 : decode cX2_mend 1 = .ok (.invokestatic 35, 3) := by decide +kernel
theorem dX2_mend_4 : decode cX2_mend 4 = .ok (.ifCond .eq 12, 3) := by decide +kernel
theorem dX2_mend_7 : decode cX2_mend 7 = .ok (.aload_n 0, 1) := by decide +kernel
theorem dX2_mend_8 : decode cX2_mend 8 = .ok (.getfield 16, 3) := by decide +kernel
theorem dX2_mend_11 : decode cX2_mend 11 = .ok (.iload_n 1, 1) := by decide +kernel
theorem dX2_mend_12 : decode cX2_mend 12 = .ok (.baload, 1) := by decide +kernel
theorem dX2_mend_13 : decode cX2_mend 13 = .ok (.ifCond .ne 5, 3) := by decide +kernel
theorem dX2_mend_16 : decode cX2_mend 16 = .ok (.iconst 0, 1) := by decide +kernel
theorem dX2_mend_17 : decode cX2_mend 17 = .ok (.ireturn, 1) := by decide +kernel
theorem dX2_mend_18 : decode cX2_mend 18 = .ok (.aload_n 0, 1) := by decide +kernel
theorem dX2_mend_19 : decode cX2_mend 19 = .ok (.getfield 16, 3) := by decide +kernel
theorem dX2_mend_22 : decode cX2_mend 22 = .ok (.iload_n 1, 1) := by decide +kernel
theorem dX2_mend_23 : decode cX2_mend 23 = .ok (.iconst 0, 1) := by decide +kernel
theorem dX2_mend_24 : decode cX2_mend 24 = .ok (.bastore, 1) := by decide +kernel
theorem dX2_mend_25 : decode cX2_mend 25 = .ok (.iconst 1, 1) := by decide +kernel
theorem dX2_mend_26 : decode cX2_mend 26 = .ok (.ireturn, 1) := by decide +kernel
abbrev cX2_far : ByteArray := prog_3_method_17_code
def yX2_far : MethodName := ⟨RX2, "far", "(IZI)I"⟩
theorem dX2_far_0 : decode cX2_far 0 = .ok (.aload_n 0, 1) := by decide +kernel
theorem dX2_far_1 : decode cX2_far 1 = .ok (.iload_n 1, 1) := by decide +kernel
theorem dX2_far_2 : decode cX2_far 2 = .ok (.iload_n 2, 1) := by decide +kernel
theorem dX2_far_3 : decode cX2_far 3 = .ok (.iload_n 3, 1) := by decide +kernel
theorem dX2_far_4 : decode cX2_far 4 = .ok (.invokevirtual 65, 3) := by decide +kernel
theorem dX2_far_7 : decode cX2_far 7 = .ok (.ifCond .eq 23, 3) := by decide +kernel
theorem dX2_far_10 : decode cX2_far 10 = .ok (.aload_n 0, 1) := by decide +kernel
theorem dX2_far_11 : decode cX2_far 11 = .ok (.getfield 20, 3) := by decide +kernel
theorem dX2_far_14 : decode cX2_far 14 = .ok (.iload_n 1, 1) := by decide +kernel
theorem dX2_far_15 : decode cX2_far 15 = .ok (.iaload, 1) := by decide +kernel
theorem dX2_far_16 : decode cX2_far 16 = .ok (.ldc 42, 2) := by decide +kernel
theorem dX2_far_18 : decode cX2_far 18 = .ok (.if_icmp .ge 12, 3) := by decide +kernel
theorem dX2_far_21 : decode cX2_far 21 = .ok (.aload_n 0, 1) := by decide +kernel
theorem dX2_far_22 : decode cX2_far 22 = .ok (.getfield 20, 3) := by decide +kernel
theorem dX2_far_25 : decode cX2_far 25 = .ok (.iload_n 1, 1) := by decide +kernel
theorem dX2_far_26 : decode cX2_far 26 = .ok (.iaload, 1) := by decide +kernel
theorem dX2_far_27 : decode cX2_far 27 = .ok (.goto 4, 3) := by decide +kernel
theorem dX2_far_30 : decode cX2_far 30 = .ok (.iconst (-1), 1) := by decide +kernel
theorem dX2_far_31 : decode cX2_far 31 = .ok (.ireturn, 1) := by decide +kernel
abbrev cX2_isAsked : ByteArray := prog_3_method_16_code
def yX2_isAsked : MethodName := ⟨RX2, "isAsked", "(IZI)Z"⟩
theorem dX2_isAsked_0 : decode cX2_isAsked 0 = .ok (.aload_n 0, 1) := by decide +kernel
theorem dX2_isAsked_1 : decode cX2_isAsked 1 = .ok (.iload_n 1, 1) := by decide +kernel
theorem dX2_isAsked_2 : decode cX2_isAsked 2 = .ok (.invokevirtual 27, 3) := by decide +kernel
theorem dX2_isAsked_5 : decode cX2_isAsked 5 = .ok (.ifCond .eq 25, 3) := by decide +kernel
theorem dX2_isAsked_8 : decode cX2_isAsked 8 = .ok (.iload_n 2, 1) := by decide +kernel
theorem dX2_isAsked_9 : decode cX2_isAsked 9 = .ok (.ifCond .eq 13, 3) := by decide +kernel
theorem dX2_isAsked_12 : decode cX2_isAsked 12 = .ok (.iload_n 3, 1) := by decide +kernel
theorem dX2_isAsked_13 : decode cX2_isAsked 13 = .ok (.invokestatic 35, 3) := by decide +kernel
theorem dX2_isAsked_16 : decode cX2_isAsked 16 = .ok (.ifCond .ne 16, 3) := by decide +kernel
theorem dX2_isAsked_19 : decode cX2_isAsked 19 = .ok (.goto 11, 3) := by decide +kernel
theorem dX2_isAsked_22 : decode cX2_isAsked 22 = .ok (.aload_n 0, 1) := by decide +kernel
theorem dX2_isAsked_23 : decode cX2_isAsked 23 = .ok (.iload_n 3, 1) := by decide +kernel
theorem dX2_isAsked_24 : decode cX2_isAsked 24 = .ok (.invokevirtual 27, 3) := by decide +kernel
theorem dX2_isAsked_27 : decode cX2_isAsked 27 = .ok (.ifCond .ne 5, 3) := by decide +kernel
theorem dX2_isAsked_30 : decode cX2_isAsked 30 = .ok (.iconst 0, 1) := by decide +kernel
theorem dX2_isAsked_31 : decode cX2_isAsked 31 = .ok (.ireturn, 1) := by decide +kernel
theorem dX2_isAsked_32 : decode cX2_isAsked 32 = .ok (.aload_n 0, 1) := by decide +kernel
theorem dX2_isAsked_33 : decode cX2_isAsked 33 = .ok (.iload_n 2, 1) := by decide +kernel
theorem dX2_isAsked_34 : decode cX2_isAsked 34 = .ok (.iload_n 3, 1) := by decide +kernel
theorem dX2_isAsked_35 : decode cX2_isAsked 35 = .ok (.invokevirtual 57, 3) := by decide +kernel
theorem dX2_isAsked_38 : decode cX2_isAsked 38 = .ok (.aload_n 0, 1) := by decide +kernel
theorem dX2_isAsked_39 : decode cX2_isAsked 39 = .ok (.iload_n 1, 1) := by decide +kernel
theorem dX2_isAsked_40 : decode cX2_isAsked 40 = .ok (.iload_n 2, 1) := by decide +kernel
theorem dX2_isAsked_41 : decode cX2_isAsked 41 = .ok (.iload_n 3, 1) := by decide +kernel
theorem dX2_isAsked_42 : decode cX2_isAsked 42 = .ok (.invokevirtual 61, 3) := by decide +kernel
theorem dX2_isAsked_45 : decode cX2_isAsked 45 = .ok (.iconst 1, 1) := by decide +kernel
theorem dX2_isAsked_46 : decode cX2_isAsked 46 = .ok (.ireturn, 1) := by decide +kernel
abbrev cX2_reckon : ByteArray := prog_3_method_14_code
def yX2_reckon : MethodName := ⟨RX2, "reckon", "(ZI)V"⟩
theorem dX2_reckon_0 : decode cX2_reckon 0 = .ok (.iconst 0, 1) := by decide +kernel
theorem dX2_reckon_1 : decode cX2_reckon 1 = .ok (.istore_n 3, 1) := by decide +kernel
theorem dX2_reckon_2 : decode cX2_reckon 2 = .ok (.iload_n 3, 1) := by decide +kernel
theorem dX2_reckon_3 : decode cX2_reckon 3 = .ok (.aload_n 0, 1) := by decide +kernel
theorem dX2_reckon_4 : decode cX2_reckon 4 = .ok (.getfield 23, 3) := by decide +kernel
theorem dX2_reckon_7 : decode cX2_reckon 7 = .ok (.if_icmp .ge 31, 3) := by decide +kernel
theorem dX2_reckon_10 : decode cX2_reckon 10 = .ok (.aload_n 0, 1) := by decide +kernel
theorem dX2_reckon_11 : decode cX2_reckon 11 = .ok (.getfield 20, 3) := by decide +kernel
theorem dX2_reckon_14 : decode cX2_reckon 14 = .ok (.iload_n 3, 1) := by decide +kernel
theorem dX2_reckon_15 : decode cX2_reckon 15 = .ok (.aload_n 0, 1) := by decide +kernel
theorem dX2_reckon_16 : decode cX2_reckon 16 = .ok (.iload_n 3, 1) := by decide +kernel
theorem dX2_reckon_17 : decode cX2_reckon 17 = .ok (.iload_n 1, 1) := by decide +kernel
theorem dX2_reckon_18 : decode cX2_reckon 18 = .ok (.iload_n 2, 1) := by decide +kernel
theorem dX2_reckon_19 : decode cX2_reckon 19 = .ok (.invokevirtual 43, 3) := by decide +kernel
theorem dX2_reckon_22 : decode cX2_reckon 22 = .ok (.ifCond .eq 7, 3) := by decide +kernel
theorem dX2_reckon_25 : decode cX2_reckon 25 = .ok (.iconst 0, 1) := by decide +kernel
theorem dX2_reckon_26 : decode cX2_reckon 26 = .ok (.goto 5, 3) := by decide +kernel
theorem dX2_reckon_29 : decode cX2_reckon 29 = .ok (.ldc 42, 2) := by decide +kernel
theorem dX2_reckon_31 : decode cX2_reckon 31 = .ok (.iastore, 1) := by decide +kernel
theorem dX2_reckon_32 : decode cX2_reckon 32 = .ok (.iinc 3 1, 3) := by decide +kernel
theorem dX2_reckon_35 : decode cX2_reckon 35 = .ok (.goto (-33), 3) := by decide +kernel
theorem dX2_reckon_38 : decode cX2_reckon 38 = .ok (.iconst 1, 1) := by decide +kernel
theorem dX2_reckon_39 : decode cX2_reckon 39 = .ok (.istore_n 3, 1) := by decide +kernel
theorem dX2_reckon_40 : decode cX2_reckon 40 = .ok (.iload_n 3, 1) := by decide +kernel
theorem dX2_reckon_41 : decode cX2_reckon 41 = .ok (.ifCond .eq 121, 3) := by decide +kernel
theorem dX2_reckon_44 : decode cX2_reckon 44 = .ok (.iconst 0, 1) := by decide +kernel
theorem dX2_reckon_45 : decode cX2_reckon 45 = .ok (.istore_n 3, 1) := by decide +kernel
theorem dX2_reckon_46 : decode cX2_reckon 46 = .ok (.iconst 0, 1) := by decide +kernel
theorem dX2_reckon_47 : decode cX2_reckon 47 = .ok (.istore 4, 2) := by decide +kernel
theorem dX2_reckon_49 : decode cX2_reckon 49 = .ok (.iload 4, 2) := by decide +kernel
theorem dX2_reckon_51 : decode cX2_reckon 51 = .ok (.aload_n 0, 1) := by decide +kernel
theorem dX2_reckon_52 : decode cX2_reckon 52 = .ok (.getfield 23, 3) := by decide +kernel
theorem dX2_reckon_55 : decode cX2_reckon 55 = .ok (.if_icmp .ge 104, 3) := by decide +kernel
theorem dX2_reckon_58 : decode cX2_reckon 58 = .ok (.iconst 0, 1) := by decide +kernel
theorem dX2_reckon_59 : decode cX2_reckon 59 = .ok (.istore 5, 2) := by decide +kernel
theorem dX2_reckon_61 : decode cX2_reckon 61 = .ok (.iload 5, 2) := by decide +kernel
theorem dX2_reckon_63 : decode cX2_reckon 63 = .ok (.iconst 4, 1) := by decide +kernel
theorem dX2_reckon_64 : decode cX2_reckon 64 = .ok (.aload_n 0, 1) := by decide +kernel
theorem dX2_reckon_65 : decode cX2_reckon 65 = .ok (.getfield 23, 3) := by decide +kernel
theorem dX2_reckon_68 : decode cX2_reckon 68 = .ok (.imul, 1) := by decide +kernel
theorem dX2_reckon_69 : decode cX2_reckon 69 = .ok (.if_icmp .ge 84, 3) := by decide +kernel
theorem dX2_reckon_72 : decode cX2_reckon 72 = .ok (.aload_n 0, 1) := by decide +kernel
theorem dX2_reckon_73 : decode cX2_reckon 73 = .ok (.iload 4, 2) := by decide +kernel
theorem dX2_reckon_75 : decode cX2_reckon 75 = .ok (.iload 5, 2) := by decide +kernel
theorem dX2_reckon_77 : decode cX2_reckon 77 = .ok (.aload_n 0, 1) := by decide +kernel
theorem dX2_reckon_78 : decode cX2_reckon 78 = .ok (.getfield 23, 3) := by decide +kernel
theorem dX2_reckon_81 : decode cX2_reckon 81 = .ok (.idiv, 1) := by decide +kernel
theorem dX2_reckon_82 : decode cX2_reckon 82 = .ok (.iload 5, 2) := by decide +kernel
theorem dX2_reckon_84 : decode cX2_reckon 84 = .ok (.aload_n 0, 1) := by decide +kernel
theorem dX2_reckon_85 : decode cX2_reckon 85 = .ok (.getfield 23, 3) := by decide +kernel
theorem dX2_reckon_88 : decode cX2_reckon 88 = .ok (.irem, 1) := by decide +kernel
theorem dX2_reckon_89 : decode cX2_reckon 89 = .ok (.invokevirtual 47, 3) := by decide +kernel
theorem dX2_reckon_92 : decode cX2_reckon 92 = .ok (.istore 6, 2) := by decide +kernel
theorem dX2_reckon_94 : decode cX2_reckon 94 = .ok (.iload_n 3, 1) := by decide +kernel
theorem dX2_reckon_95 : decode cX2_reckon 95 = .ok (.ifCond .ne 15, 3) := by decide +kernel
theorem dX2_reckon_98 : decode cX2_reckon 98 = .ok (.iload 6, 2) := by decide +kernel
theorem dX2_reckon_100 : decode cX2_reckon 100 = .ok (.aload_n 0, 1) := by decide +kernel
theorem dX2_reckon_101 : decode cX2_reckon 101 = .ok (.getfield 20, 3) := by decide +kernel
theorem dX2_reckon_104 : decode cX2_reckon 104 = .ok (.iload 4, 2) := by decide +kernel
theorem dX2_reckon_106 : decode cX2_reckon 106 = .ok (.iaload, 1) := by decide +kernel
theorem dX2_reckon_107 : decode cX2_reckon 107 = .ok (.if_icmp .ge 7, 3) := by decide +kernel
theorem dX2_reckon_110 : decode cX2_reckon 110 = .ok (.iconst 1, 1) := by decide +kernel
theorem dX2_reckon_111 : decode cX2_reckon 111 = .ok (.goto 4, 3) := by decide +kernel
theorem dX2_reckon_114 : decode cX2_reckon 114 = .ok (.iconst 0, 1) := by decide +kernel
theorem dX2_reckon_115 : decode cX2_reckon 115 = .ok (.istore_n 3, 1) := by decide +kernel
theorem dX2_reckon_116 : decode cX2_reckon 116 = .ok (.aload_n 0, 1) := by decide +kernel
theorem dX2_reckon_117 : decode cX2_reckon 117 = .ok (.getfield 20, 3) := by decide +kernel
theorem dX2_reckon_120 : decode cX2_reckon 120 = .ok (.iload 4, 2) := by decide +kernel
theorem dX2_reckon_122 : decode cX2_reckon 122 = .ok (.iload 6, 2) := by decide +kernel
theorem dX2_reckon_124 : decode cX2_reckon 124 = .ok (.aload_n 0, 1) := by decide +kernel
theorem dX2_reckon_125 : decode cX2_reckon 125 = .ok (.getfield 20, 3) := by decide +kernel
theorem dX2_reckon_128 : decode cX2_reckon 128 = .ok (.iload 4, 2) := by decide +kernel
theorem dX2_reckon_130 : decode cX2_reckon 130 = .ok (.iaload, 1) := by decide +kernel
theorem dX2_reckon_131 : decode cX2_reckon 131 = .ok (.if_icmp .ge 8, 3) := by decide +kernel
theorem dX2_reckon_134 : decode cX2_reckon 134 = .ok (.iload 6, 2) := by decide +kernel
theorem dX2_reckon_136 : decode cX2_reckon 136 = .ok (.goto 10, 3) := by decide +kernel
theorem dX2_reckon_139 : decode cX2_reckon 139 = .ok (.aload_n 0, 1) := by decide +kernel
theorem dX2_reckon_140 : decode cX2_reckon 140 = .ok (.getfield 20, 3) := by decide +kernel
theorem dX2_reckon_143 : decode cX2_reckon 143 = .ok (.iload 4, 2) := by decide +kernel
theorem dX2_reckon_145 : decode cX2_reckon 145 = .ok (.iaload, 1) := by decide +kernel
theorem dX2_reckon_146 : decode cX2_reckon 146 = .ok (.iastore, 1) := by decide +kernel
theorem dX2_reckon_147 : decode cX2_reckon 147 = .ok (.iinc 5 1, 3) := by decide +kernel
theorem dX2_reckon_150 : decode cX2_reckon 150 = .ok (.goto (-89), 3) := by decide +kernel
theorem dX2_reckon_153 : decode cX2_reckon 153 = .ok (.iinc 4 1, 3) := by decide +kernel
theorem dX2_reckon_156 : decode cX2_reckon 156 = .ok (.goto (-107), 3) := by decide +kernel
theorem dX2_reckon_159 : decode cX2_reckon 159 = .ok (.goto (-119), 3) := by decide +kernel
theorem dX2_reckon_162 : decode cX2_reckon 162 = .ok (.return_, 1) := by decide +kernel
end
section
set_option maxRecDepth 100000
abbrev cX2_isAt : ByteArray := prog_3_method_12_code
def yX2_isAt : MethodName := ⟨RX2, "isAt", "(IZI)Z"⟩
theorem dX2_isAt_0 : decode cX2_isAt 0 = .ok (.iload_n 2, 1) := by decide +kernel
theorem dX2_isAt_1 : decode cX2_isAt 1 = .ok (.ifCond .eq 30, 3) := by decide +kernel
theorem dX2_isAt_4 : decode cX2_isAt 4 = .ok (.aload_n 0, 1) := by decide +kernel
theorem dX2_isAt_5 : decode cX2_isAt 5 = .ok (.getfield 16, 3) := by decide +kernel
theorem dX2_isAt_8 : decode cX2_isAt 8 = .ok (.iload_n 3, 1) := by decide +kernel
theorem dX2_isAt_9 : decode cX2_isAt 9 = .ok (.baload, 1) := by decide +kernel
theorem dX2_isAt_10 : decode cX2_isAt 10 = .ok (.ifCond .ne 17, 3) := by decide +kernel
theorem dX2_isAt_13 : decode cX2_isAt 13 = .ok (.aload_n 0, 1) := by decide +kernel
theorem dX2_isAt_14 : decode cX2_isAt 14 = .ok (.iload_n 1, 1) := by decide +kernel
theorem dX2_isAt_15 : decode cX2_isAt 15 = .ok (.iload_n 3, 1) := by decide +kernel
theorem dX2_isAt_16 : decode cX2_isAt 16 = .ok (.invokevirtual 38, 3) := by decide +kernel
theorem dX2_isAt_19 : decode cX2_isAt 19 = .ok (.iconst (-1), 1) := by decide +kernel
theorem dX2_isAt_20 : decode cX2_isAt 20 = .ok (.if_icmp .eq 7, 3) := by decide +kernel
theorem dX2_isAt_23 : decode cX2_isAt 23 = .ok (.iconst 1, 1) := by decide +kernel
theorem dX2_isAt_24 : decode cX2_isAt 24 = .ok (.goto 17, 3) := by decide +kernel
theorem dX2_isAt_27 : decode cX2_isAt 27 = .ok (.iconst 0, 1) := by decide +kernel
theorem dX2_isAt_28 : decode cX2_isAt 28 = .ok (.goto 13, 3) := by decide +kernel
theorem dX2_isAt_31 : decode cX2_isAt 31 = .ok (.iload_n 1, 1) := by decide +kernel
theorem dX2_isAt_32 : decode cX2_isAt 32 = .ok (.iload_n 3, 1) := by decide +kernel
theorem dX2_isAt_33 : decode cX2_isAt 33 = .ok (.if_icmp .ne 7, 3) := by decide +kernel
theorem dX2_isAt_36 : decode cX2_isAt 36 = .ok (.iconst 1, 1) := by decide +kernel
theorem dX2_isAt_37 : decode cX2_isAt 37 = .ok (.goto 4, 3) := by decide +kernel
theorem dX2_isAt_40 : decode cX2_isAt 40 = .ok (.iconst 0, 1) := by decide +kernel
theorem dX2_isAt_41 : decode cX2_isAt 41 = .ok (.ireturn, 1) := by decide +kernel
abbrev cX2_by : ByteArray := prog_3_method_13_code
def yX2_by : MethodName := ⟨RX2, "by", "(III)I"⟩
theorem dX2_by_0 : decode cX2_by 0 = .ok (.aload_n 0, 1) := by decide +kernel
theorem dX2_by_1 : decode cX2_by 1 = .ok (.getfield 7, 3) := by decide +kernel
theorem dX2_by_4 : decode cX2_by 4 = .ok (.iconst 4, 1) := by decide +kernel
theorem dX2_by_5 : decode cX2_by 5 = .ok (.iload_n 1, 1) := by decide +kernel
theorem dX2_by_6 : decode cX2_by 6 = .ok (.imul, 1) := by decide +kernel
theorem dX2_by_7 : decode cX2_by 7 = .ok (.iload_n 2, 1) := by decide +kernel
theorem dX2_by_8 : decode cX2_by 8 = .ok (.iadd, 1) := by decide +kernel
theorem dX2_by_9 : decode cX2_by 9 = .ok (.iaload, 1) := by decide +kernel
theorem dX2_by_10 : decode cX2_by 10 = .ok (.istore 4, 2) := by decide +kernel
theorem dX2_by_12 : decode cX2_by 12 = .ok (.iload 4, 2) := by decide +kernel
theorem dX2_by_14 : decode cX2_by 14 = .ok (.iconst (-1), 1) := by decide +kernel
theorem dX2_by_15 : decode cX2_by 15 = .ok (.if_icmp .eq 29, 3) := by decide +kernel
theorem dX2_by_18 : decode cX2_by 18 = .ok (.aload_n 0, 1) := by decide +kernel
theorem dX2_by_19 : decode cX2_by 19 = .ok (.getfield 16, 3) := by decide +kernel
theorem dX2_by_22 : decode cX2_by 22 = .ok (.iload 4, 2) := by decide +kernel
theorem dX2_by_24 : decode cX2_by 24 = .ok (.baload, 1) := by decide +kernel
theorem dX2_by_25 : decode cX2_by 25 = .ok (.ifCond .ne 19, 3) := by decide +kernel
theorem dX2_by_28 : decode cX2_by 28 = .ok (.iload_n 3, 1) := by decide +kernel
theorem dX2_by_29 : decode cX2_by 29 = .ok (.iload_n 1, 1) := by decide +kernel
theorem dX2_by_30 : decode cX2_by 30 = .ok (.if_icmp .eq 14, 3) := by decide +kernel
theorem dX2_by_33 : decode cX2_by 33 = .ok (.aload_n 0, 1) := by decide +kernel
theorem dX2_by_34 : decode cX2_by 34 = .ok (.iload_n 3, 1) := by decide +kernel
theorem dX2_by_35 : decode cX2_by 35 = .ok (.iload 4, 2) := by decide +kernel
theorem dX2_by_37 : decode cX2_by 37 = .ok (.invokevirtual 38, 3) := by decide +kernel
theorem dX2_by_40 : decode cX2_by 40 = .ok (.iconst (-1), 1) := by decide +kernel
theorem dX2_by_41 : decode cX2_by 41 = .ok (.if_icmp .ne 6, 3) := by decide +kernel
theorem dX2_by_44 : decode cX2_by 44 = .ok (.ldc 42, 2) := by decide +kernel
theorem dX2_by_46 : decode cX2_by 46 = .ok (.ireturn, 1) := by decide +kernel
theorem dX2_by_47 : decode cX2_by 47 = .ok (.aload_n 0, 1) := by decide +kernel
theorem dX2_by_48 : decode cX2_by 48 = .ok (.getfield 20, 3) := by decide +kernel
theorem dX2_by_51 : decode cX2_by 51 = .ok (.iload_n 3, 1) := by decide +kernel
theorem dX2_by_52 : decode cX2_by 52 = .ok (.iaload, 1) := by decide +kernel
theorem dX2_by_53 : decode cX2_by 53 = .ok (.ldc 42, 2) := by decide +kernel
theorem dX2_by_55 : decode cX2_by 55 = .ok (.if_icmp .lt 8, 3) := by decide +kernel
theorem dX2_by_58 : decode cX2_by 58 = .ok (.ldc 42, 2) := by decide +kernel
theorem dX2_by_60 : decode cX2_by 60 = .ok (.goto 20, 3) := by decide +kernel
theorem dX2_by_63 : decode cX2_by 63 = .ok (.aload_n 0, 1) := by decide +kernel
theorem dX2_by_64 : decode cX2_by 64 = .ok (.getfield 13, 3) := by decide +kernel
theorem dX2_by_67 : decode cX2_by 67 = .ok (.iconst 4, 1) := by decide +kernel
theorem dX2_by_68 : decode cX2_by 68 = .ok (.iload_n 1, 1) := by decide +kernel
theorem dX2_by_69 : decode cX2_by 69 = .ok (.imul, 1) := by decide +kernel
theorem dX2_by_70 : decode cX2_by 70 = .ok (.iload_n 2, 1) := by decide +kernel
theorem dX2_by_71 : decode cX2_by 71 = .ok (.iadd, 1) := by decide +kernel
theorem dX2_by_72 : decode cX2_by 72 = .ok (.iaload, 1) := by decide +kernel
theorem dX2_by_73 : decode cX2_by 73 = .ok (.aload_n 0, 1) := by decide +kernel
theorem dX2_by_74 : decode cX2_by 74 = .ok (.getfield 20, 3) := by decide +kernel
theorem dX2_by_77 : decode cX2_by 77 = .ok (.iload_n 3, 1) := by decide +kernel
theorem dX2_by_78 : decode cX2_by 78 = .ok (.iaload, 1) := by decide +kernel
theorem dX2_by_79 : decode cX2_by 79 = .ok (.iadd, 1) := by decide +kernel
theorem dX2_by_80 : decode cX2_by 80 = .ok (.ireturn, 1) := by decide +kernel
abbrev cX2_choose : ByteArray := prog_3_method_15_code
def yX2_choose : MethodName := ⟨RX2, "choose", "(IZI)V"⟩
theorem dX2_choose_0 : decode cX2_choose 0 = .ok (.aload_n 0, 1) := by decide +kernel
theorem dX2_choose_1 : decode cX2_choose 1 = .ok (.iconst (-1), 1) := by decide +kernel
theorem dX2_choose_2 : decode cX2_choose 2 = .ok (.putfield 51, 3) := by decide +kernel
theorem dX2_choose_5 : decode cX2_choose 5 = .ok (.aload_n 0, 1) := by decide +kernel
theorem dX2_choose_6 : decode cX2_choose 6 = .ok (.iconst (-1), 1) := by decide +kernel
theorem dX2_choose_7 : decode cX2_choose 7 = .ok (.putfield 54, 3) := by decide +kernel
theorem dX2_choose_10 : decode cX2_choose 10 = .ok (.aload_n 0, 1) := by decide +kernel
theorem dX2_choose_11 : decode cX2_choose 11 = .ok (.getfield 20, 3) := by decide +kernel
theorem dX2_choose_14 : decode cX2_choose 14 = .ok (.iload_n 1, 1) := by decide +kernel
theorem dX2_choose_15 : decode cX2_choose 15 = .ok (.iaload, 1) := by decide +kernel
theorem dX2_choose_16 : decode cX2_choose 16 = .ok (.ldc 42, 2) := by decide +kernel
theorem dX2_choose_18 : decode cX2_choose 18 = .ok (.if_icmp .lt 4, 3) := by decide +kernel
theorem dX2_choose_21 : decode cX2_choose 21 = .ok (.return_, 1) := by decide +kernel
theorem dX2_choose_22 : decode cX2_choose 22 = .ok (.aload_n 0, 1) := by decide +kernel
theorem dX2_choose_23 : decode cX2_choose 23 = .ok (.iload_n 1, 1) := by decide +kernel
theorem dX2_choose_24 : decode cX2_choose 24 = .ok (.iload_n 2, 1) := by decide +kernel
theorem dX2_choose_25 : decode cX2_choose 25 = .ok (.iload_n 3, 1) := by decide +kernel
theorem dX2_choose_26 : decode cX2_choose 26 = .ok (.invokevirtual 43, 3) := by decide +kernel
theorem dX2_choose_29 : decode cX2_choose 29 = .ok (.ifCond .eq 22, 3) := by decide +kernel
theorem dX2_choose_32 : decode cX2_choose 32 = .ok (.aload_n 0, 1) := by decide +kernel
theorem dX2_choose_33 : decode cX2_choose 33 = .ok (.iload_n 2, 1) := by decide +kernel
theorem dX2_choose_34 : decode cX2_choose 34 = .ok (.ifCond .eq 12, 3) := by decide +kernel
theorem dX2_choose_37 : decode cX2_choose 37 = .ok (.aload_n 0, 1) := by decide +kernel
theorem dX2_choose_38 : decode cX2_choose 38 = .ok (.iload_n 1, 1) := by decide +kernel
theorem dX2_choose_39 : decode cX2_choose 39 = .ok (.iload_n 3, 1) := by decide +kernel
theorem dX2_choose_40 : decode cX2_choose 40 = .ok (.invokevirtual 38, 3) := by decide +kernel
theorem dX2_choose_43 : decode cX2_choose 43 = .ok (.goto 4, 3) := by decide +kernel
theorem dX2_choose_46 : decode cX2_choose 46 = .ok (.iconst (-1), 1) := by decide +kernel
theorem dX2_choose_47 : decode cX2_choose 47 = .ok (.putfield 51, 3) := by decide +kernel
theorem dX2_choose_50 : decode cX2_choose 50 = .ok (.return_, 1) := by decide +kernel
theorem dX2_choose_51 : decode cX2_choose 51 = .ok (.ldc 42, 2) := by decide +kernel
theorem dX2_choose_53 : decode cX2_choose 53 = .ok (.istore 4, 2) := by decide +kernel
theorem dX2_choose_55 : decode cX2_choose 55 = .ok (.iconst 0, 1) := by decide +kernel
theorem dX2_choose_56 : decode cX2_choose 56 = .ok (.istore 5, 2) := by decide +kernel
theorem dX2_choose_58 : decode cX2_choose 58 = .ok (.iload 5, 2) := by decide +kernel
theorem dX2_choose_60 : decode cX2_choose 60 = .ok (.iconst 4, 1) := by decide +kernel
theorem dX2_choose_61 : decode cX2_choose 61 = .ok (.aload_n 0, 1) := by decide +kernel
theorem dX2_choose_62 : decode cX2_choose 62 = .ok (.getfield 23, 3) := by decide +kernel
theorem dX2_choose_65 : decode cX2_choose 65 = .ok (.imul, 1) := by decide +kernel
theorem dX2_choose_66 : decode cX2_choose 66 = .ok (.if_icmp .ge 66, 3) := by decide +kernel
theorem dX2_choose_69 : decode cX2_choose 69 = .ok (.aload_n 0, 1) := by decide +kernel
theorem dX2_choose_70 : decode cX2_choose 70 = .ok (.iload_n 1, 1) := by decide +kernel
theorem dX2_choose_71 : decode cX2_choose 71 = .ok (.iload 5, 2) := by decide +kernel
theorem dX2_choose_73 : decode cX2_choose 73 = .ok (.aload_n 0, 1) := by decide +kernel
theorem dX2_choose_74 : decode cX2_choose 74 = .ok (.getfield 23, 3) := by decide +kernel
theorem dX2_choose_77 : decode cX2_choose 77 = .ok (.idiv, 1) := by decide +kernel
theorem dX2_choose_78 : decode cX2_choose 78 = .ok (.iload 5, 2) := by decide +kernel
theorem dX2_choose_80 : decode cX2_choose 80 = .ok (.aload_n 0, 1) := by decide +kernel
theorem dX2_choose_81 : decode cX2_choose 81 = .ok (.getfield 23, 3) := by decide +kernel
theorem dX2_choose_84 : decode cX2_choose 84 = .ok (.irem, 1) := by decide +kernel
theorem dX2_choose_85 : decode cX2_choose 85 = .ok (.invokevirtual 47, 3) := by decide +kernel
theorem dX2_choose_88 : decode cX2_choose 88 = .ok (.istore 6, 2) := by decide +kernel
theorem dX2_choose_90 : decode cX2_choose 90 = .ok (.iload 6, 2) := by decide +kernel
theorem dX2_choose_92 : decode cX2_choose 92 = .ok (.iload 4, 2) := by decide +kernel
theorem dX2_choose_94 : decode cX2_choose 94 = .ok (.if_icmp .lt 6, 3) := by decide +kernel
theorem dX2_choose_97 : decode cX2_choose 97 = .ok (.goto 29, 3) := by decide +kernel
theorem dX2_choose_100 : decode cX2_choose 100 = .ok (.iload 6, 2) := by decide +kernel
theorem dX2_choose_102 : decode cX2_choose 102 = .ok (.istore 4, 2) := by decide +kernel
theorem dX2_choose_104 : decode cX2_choose 104 = .ok (.aload_n 0, 1) := by decide +kernel
theorem dX2_choose_105 : decode cX2_choose 105 = .ok (.iload 5, 2) := by decide +kernel
theorem dX2_choose_107 : decode cX2_choose 107 = .ok (.aload_n 0, 1) := by decide +kernel
theorem dX2_choose_108 : decode cX2_choose 108 = .ok (.getfield 23, 3) := by decide +kernel
theorem dX2_choose_111 : decode cX2_choose 111 = .ok (.idiv, 1) := by decide +kernel
theorem dX2_choose_112 : decode cX2_choose 112 = .ok (.putfield 51, 3) := by decide +kernel
theorem dX2_choose_115 : decode cX2_choose 115 = .ok (.aload_n 0, 1) := by decide +kernel
theorem dX2_choose_116 : decode cX2_choose 116 = .ok (.iload 5, 2) := by decide +kernel
theorem dX2_choose_118 : decode cX2_choose 118 = .ok (.aload_n 0, 1) := by decide +kernel
theorem dX2_choose_119 : decode cX2_choose 119 = .ok (.getfield 23, 3) := by decide +kernel
theorem dX2_choose_122 : decode cX2_choose 122 = .ok (.irem, 1) := by decide +kernel
theorem dX2_choose_123 : decode cX2_choose 123 = .ok (.putfield 54, 3) := by decide +kernel
theorem dX2_choose_126 : decode cX2_choose 126 = .ok (.iinc 5 1, 3) := by decide +kernel
theorem dX2_choose_129 : decode cX2_choose 129 = .ok (.goto (-71), 3) := by decide +kernel
theorem dX2_choose_132 : decode cX2_choose 132 = .ok (.return_, 1) := by decide +kernel
abbrev cX2_port : ByteArray := prog_3_method_18_code
def yX2_port : MethodName := ⟨RX2, "port", "(IZI)I"⟩
theorem dX2_port_0 : decode cX2_port 0 = .ok (.aload_n 0, 1) := by decide +kernel
theorem dX2_port_1 : decode cX2_port 1 = .ok (.iload_n 1, 1) := by decide +kernel
theorem dX2_port_2 : decode cX2_port 2 = .ok (.iload_n 2, 1) := by decide +kernel
theorem dX2_port_3 : decode cX2_port 3 = .ok (.iload_n 3, 1) := by decide +kernel
theorem dX2_port_4 : decode cX2_port 4 = .ok (.invokevirtual 65, 3) := by decide +kernel
theorem dX2_port_7 : decode cX2_port 7 = .ok (.ifCond .eq 10, 3) := by decide +kernel
theorem dX2_port_10 : decode cX2_port 10 = .ok (.aload_n 0, 1) := by decide +kernel
theorem dX2_port_11 : decode cX2_port 11 = .ok (.getfield 51, 3) := by decide +kernel
theorem dX2_port_14 : decode cX2_port 14 = .ok (.goto 4, 3) := by decide +kernel
theorem dX2_port_17 : decode cX2_port 17 = .ok (.iconst (-1), 1) := by decide +kernel
theorem dX2_port_18 : decode cX2_port 18 = .ok (.ireturn, 1) := by decide +kernel
abbrev cX2_next : ByteArray := prog_3_method_19_code
def yX2_next : MethodName := ⟨RX2, "next", "(IZI)I"⟩
theorem dX2_next_0 : decode cX2_next 0 = .ok (.aload_n 0, 1) := by decide +kernel
theorem dX2_next_1 : decode cX2_next 1 = .ok (.iload_n 1, 1) := by decide +kernel
theorem dX2_next_2 : decode cX2_next 2 = .ok (.iload_n 2, 1) := by decide +kernel
theorem dX2_next_3 : decode cX2_next 3 = .ok (.iload_n 3, 1) := by decide +kernel
theorem dX2_next_4 : decode cX2_next 4 = .ok (.invokevirtual 65, 3) := by decide +kernel
theorem dX2_next_7 : decode cX2_next 7 = .ok (.ifCond .eq 10, 3) := by decide +kernel
theorem dX2_next_10 : decode cX2_next 10 = .ok (.aload_n 0, 1) := by decide +kernel
theorem dX2_next_11 : decode cX2_next 11 = .ok (.getfield 54, 3) := by decide +kernel
theorem dX2_next_14 : decode cX2_next 14 = .ok (.goto 4, 3) := by decide +kernel
theorem dX2_next_17 : decode cX2_next 17 = .ok (.iconst (-1), 1) := by decide +kernel
theorem dX2_next_18 : decode cX2_next 18 = .ok (.ireturn, 1) := by decide +kernel
abbrev cX2_walk : ByteArray := prog_3_method_20_code
def yX2_walk : MethodName := ⟨RX2, "walk", "(IZII)I"⟩
theorem dX2_walk_0 : decode cX2_walk 0 = .ok (.iload 4, 2) := by decide +kernel
theorem dX2_walk_2 : decode cX2_walk 2 = .ok (.ifCond .lt 14, 3) := by decide +kernel
theorem dX2_walk_5 : decode cX2_walk 5 = .ok (.aload_n 0, 1) := by decide +kernel
theorem dX2_walk_6 : decode cX2_walk 6 = .ok (.iload_n 1, 1) := by decide +kernel
theorem dX2_walk_7 : decode cX2_walk 7 = .ok (.iload_n 2, 1) := by decide +kernel
theorem dX2_walk_8 : decode cX2_walk 8 = .ok (.iload_n 3, 1) := by decide +kernel
theorem dX2_walk_9 : decode cX2_walk 9 = .ok (.invokevirtual 68, 3) := by decide +kernel
theorem dX2_walk_12 : decode cX2_walk 12 = .ok (.iconst (-1), 1) := by decide +kernel
theorem dX2_walk_13 : decode cX2_walk 13 = .ok (.if_icmp .ne 5, 3) := by decide +kernel
theorem dX2_walk_16 : decode cX2_walk 16 = .ok (.iconst (-1), 1) := by decide +kernel
theorem dX2_walk_17 : decode cX2_walk 17 = .ok (.ireturn, 1) := by decide +kernel
theorem dX2_walk_18 : decode cX2_walk 18 = .ok (.iload_n 1, 1) := by decide +kernel
theorem dX2_walk_19 : decode cX2_walk 19 = .ok (.istore 5, 2) := by decide +kernel
theorem dX2_walk_21 : decode cX2_walk 21 = .ok (.iconst 0, 1) := by decide +kernel
theorem dX2_walk_22 : decode cX2_walk 22 = .ok (.istore 6, 2) := by decide +kernel
theorem dX2_walk_24 : decode cX2_walk 24 = .ok (.iload 6, 2) := by decide +kernel
theorem dX2_walk_26 : decode cX2_walk 26 = .ok (.iload 4, 2) := by decide +kernel
theorem dX2_walk_28 : decode cX2_walk 28 = .ok (.if_icmp .ge 29, 3) := by decide +kernel
theorem dX2_walk_31 : decode cX2_walk 31 = .ok (.iload 5, 2) := by decide +kernel
theorem dX2_walk_33 : decode cX2_walk 33 = .ok (.iconst (-1), 1) := by decide +kernel
theorem dX2_walk_34 : decode cX2_walk 34 = .ok (.if_icmp .eq 23, 3) := by decide +kernel
theorem dX2_walk_37 : decode cX2_walk 37 = .ok (.aload_n 0, 1) := by decide +kernel
theorem dX2_walk_38 : decode cX2_walk 38 = .ok (.iload 5, 2) := by decide +kernel
theorem dX2_walk_40 : decode cX2_walk 40 = .ok (.iload_n 2, 1) := by decide +kernel
theorem dX2_walk_41 : decode cX2_walk 41 = .ok (.iload_n 3, 1) := by decide +kernel
theorem dX2_walk_42 : decode cX2_walk 42 = .ok (.invokevirtual 61, 3) := by decide +kernel
theorem dX2_walk_45 : decode cX2_walk 45 = .ok (.aload_n 0, 1) := by decide +kernel
theorem dX2_walk_46 : decode cX2_walk 46 = .ok (.getfield 54, 3) := by decide +kernel
theorem dX2_walk_49 : decode cX2_walk 49 = .ok (.istore 5, 2) := by decide +kernel
theorem dX2_walk_51 : decode cX2_walk 51 = .ok (.iinc 6 1, 3) := by decide +kernel
theorem dX2_walk_54 : decode cX2_walk 54 = .ok (.goto (-30), 3) := by decide +kernel
theorem dX2_walk_57 : decode cX2_walk 57 = .ok (.iload 5, 2) := by decide +kernel
theorem dX2_walk_59 : decode cX2_walk 59 = .ok (.ireturn, 1) := by decide +kernel
abbrev cX2_reach : ByteArray := prog_3_method_21_code
def yX2_reach : MethodName := ⟨RX2, "reach", "(I)I"⟩
theorem dX2_reach_0 : decode cX2_reach 0 = .ok (.aload_n 0, 1) := by decide +kernel
theorem dX2_reach_1 : decode cX2_reach 1 = .ok (.iload_n 1, 1) := by decide +kernel
theorem dX2_reach_2 : decode cX2_reach 2 = .ok (.invokevirtual 27, 3) := by decide +kernel
theorem dX2_reach_5 : decode cX2_reach 5 = .ok (.ifCond .ne 5, 3) := by decide +kernel
theorem dX2_reach_8 : decode cX2_reach 8 = .ok (.iconst (-1), 1) := by decide +kernel
theorem dX2_reach_9 : decode cX2_reach 9 = .ok (.ireturn, 1) := by decide +kernel
theorem dX2_reach_10 : decode cX2_reach 10 = .ok (.iconst 0, 1) := by decide +kernel
theorem dX2_reach_11 : decode cX2_reach 11 = .ok (.istore_n 2, 1) := by decide +kernel
theorem dX2_reach_12 : decode cX2_reach 12 = .ok (.iconst 0, 1) := by decide +kernel
theorem dX2_reach_13 : decode cX2_reach 13 = .ok (.istore_n 3, 1) := by decide +kernel
theorem dX2_reach_14 : decode cX2_reach 14 = .ok (.iload_n 3, 1) := by decide +kernel
theorem dX2_reach_15 : decode cX2_reach 15 = .ok (.aload_n 0, 1) := by decide +kernel
theorem dX2_reach_16 : decode cX2_reach 16 = .ok (.getfield 23, 3) := by decide +kernel
theorem dX2_reach_19 : decode cX2_reach 19 = .ok (.if_icmp .ge 28, 3) := by decide +kernel
theorem dX2_reach_22 : decode cX2_reach 22 = .ok (.iload_n 2, 1) := by decide +kernel
theorem dX2_reach_23 : decode cX2_reach 23 = .ok (.aload_n 0, 1) := by decide +kernel
theorem dX2_reach_24 : decode cX2_reach 24 = .ok (.iload_n 1, 1) := by decide +kernel
theorem dX2_reach_25 : decode cX2_reach 25 = .ok (.iconst 0, 1) := by decide +kernel
theorem dX2_reach_26 : decode cX2_reach 26 = .ok (.iload_n 3, 1) := by decide +kernel
theorem dX2_reach_27 : decode cX2_reach 27 = .ok (.invokevirtual 68, 3) := by decide +kernel
theorem dX2_reach_30 : decode cX2_reach 30 = .ok (.iconst (-1), 1) := by decide +kernel
theorem dX2_reach_31 : decode cX2_reach 31 = .ok (.if_icmp .ne 7, 3) := by decide +kernel
theorem dX2_reach_34 : decode cX2_reach 34 = .ok (.iconst 0, 1) := by decide +kernel
theorem dX2_reach_35 : decode cX2_reach 35 = .ok (.goto 4, 3) := by decide +kernel
theorem dX2_reach_38 : decode cX2_reach 38 = .ok (.iconst 1, 1) := by decide +kernel
theorem dX2_reach_39 : decode cX2_reach 39 = .ok (.iadd, 1) := by decide +kernel
theorem dX2_reach_40 : decode cX2_reach 40 = .ok (.istore_n 2, 1) := by decide +kernel
theorem dX2_reach_41 : decode cX2_reach 41 = .ok (.iinc 3 1, 3) := by decide +kernel
theorem dX2_reach_44 : decode cX2_reach 44 = .ok (.goto (-30), 3) := by decide +kernel
theorem dX2_reach_47 : decode cX2_reach 47 = .ok (.iload_n 2, 1) := by decide +kernel
theorem dX2_reach_48 : decode cX2_reach 48 = .ok (.ireturn, 1) := by decide +kernel
abbrev cX2_count : ByteArray := prog_3_method_23_code
def yX2_count : MethodName := ⟨RX2, "count", "(I)I"⟩
theorem dX2_count_0 : decode cX2_count 0 = .ok (.iload_n 1, 1) := by decide +kernel
theorem dX2_count_1 : decode cX2_count 1 = .ok (.ifCond .ne 8, 3) := by decide +kernel
theorem dX2_count_4 : decode cX2_count 4 = .ok (.aload_n 0, 1) := by decide +kernel
theorem dX2_count_5 : decode cX2_count 5 = .ok (.getfield 23, 3) := by decide +kernel
theorem dX2_count_8 : decode cX2_count 8 = .ok (.ireturn, 1) := by decide +kernel
theorem dX2_count_9 : decode cX2_count 9 = .ok (.iload_n 1, 1) := by decide +kernel
theorem dX2_count_10 : decode cX2_count 10 = .ok (.iconst 3, 1) := by decide +kernel
theorem dX2_count_11 : decode cX2_count 11 = .ok (.if_icmp .ne 8, 3) := by decide +kernel
theorem dX2_count_14 : decode cX2_count 14 = .ok (.aload_n 0, 1) := by decide +kernel
theorem dX2_count_15 : decode cX2_count 15 = .ok (.invokevirtual 72, 3) := by decide +kernel
theorem dX2_count_18 : decode cX2_count 18 = .ok (.ireturn, 1) := by decide +kernel
theorem dX2_count_19 : decode cX2_count 19 = .ok (.iload_n 1, 1) := by decide +kernel
theorem dX2_count_20 : decode cX2_count 20 = .ok (.iconst 1, 1) := by decide +kernel
theorem dX2_count_21 : decode cX2_count 21 = .ok (.if_icmp .eq 10, 3) := by decide +kernel
theorem dX2_count_24 : decode cX2_count 24 = .ok (.iload_n 1, 1) := by decide +kernel
theorem dX2_count_25 : decode cX2_count 25 = .ok (.iconst 2, 1) := by decide +kernel
theorem dX2_count_26 : decode cX2_count 26 = .ok (.if_icmp .eq 5, 3) := by decide +kernel
theorem dX2_count_29 : decode cX2_count 29 = .ok (.iconst (-1), 1) := by decide +kernel
theorem dX2_count_30 : decode cX2_count 30 = .ok (.ireturn, 1) := by decide +kernel
theorem dX2_count_31 : decode cX2_count 31 = .ok (.iconst 0, 1) := by decide +kernel
theorem dX2_count_32 : decode cX2_count 32 = .ok (.istore_n 2, 1) := by decide +kernel
theorem dX2_count_33 : decode cX2_count 33 = .ok (.iconst 0, 1) := by decide +kernel
theorem dX2_count_34 : decode cX2_count 34 = .ok (.istore_n 3, 1) := by decide +kernel
theorem dX2_count_35 : decode cX2_count 35 = .ok (.iload_n 3, 1) := by decide +kernel
theorem dX2_count_36 : decode cX2_count 36 = .ok (.bipush 40, 2) := by decide +kernel
theorem dX2_count_38 : decode cX2_count 38 = .ok (.if_icmp .ge 32, 3) := by decide +kernel
theorem dX2_count_41 : decode cX2_count 41 = .ok (.iload_n 2, 1) := by decide +kernel
theorem dX2_count_42 : decode cX2_count 42 = .ok (.iload_n 1, 1) := by decide +kernel
theorem dX2_count_43 : decode cX2_count 43 = .ok (.iconst 1, 1) := by decide +kernel
theorem dX2_count_44 : decode cX2_count 44 = .ok (.if_icmp .ne 17, 3) := by decide +kernel
theorem dX2_count_47 : decode cX2_count 47 = .ok (.aload_n 0, 1) := by decide +kernel
theorem dX2_count_48 : decode cX2_count 48 = .ok (.getfield 7, 3) := by decide +kernel
theorem dX2_count_51 : decode cX2_count 51 = .ok (.iload_n 3, 1) := by decide +kernel
theorem dX2_count_52 : decode cX2_count 52 = .ok (.iaload, 1) := by decide +kernel
theorem dX2_count_53 : decode cX2_count 53 = .ok (.iconst (-1), 1) := by decide +kernel
theorem dX2_count_54 : decode cX2_count 54 = .ok (.if_icmp .eq 7, 3) := by decide +kernel
theorem dX2_count_57 : decode cX2_count 57 = .ok (.iconst 1, 1) := by decide +kernel
theorem dX2_count_58 : decode cX2_count 58 = .ok (.goto 4, 3) := by decide +kernel
theorem dX2_count_61 : decode cX2_count 61 = .ok (.iconst 0, 1) := by decide +kernel
theorem dX2_count_62 : decode cX2_count 62 = .ok (.iadd, 1) := by decide +kernel
theorem dX2_count_63 : decode cX2_count 63 = .ok (.istore_n 2, 1) := by decide +kernel
theorem dX2_count_64 : decode cX2_count 64 = .ok (.iinc 3 1, 3) := by decide +kernel
theorem dX2_count_67 : decode cX2_count 67 = .ok (.goto (-32), 3) := by decide +kernel
theorem dX2_count_70 : decode cX2_count 70 = .ok (.iconst 0, 1) := by decide +kernel
theorem dX2_count_71 : decode cX2_count 71 = .ok (.istore_n 3, 1) := by decide +kernel
theorem dX2_count_72 : decode cX2_count 72 = .ok (.iload_n 3, 1) := by decide +kernel
theorem dX2_count_73 : decode cX2_count 73 = .ok (.bipush 16, 2) := by decide +kernel
theorem dX2_count_75 : decode cX2_count 75 = .ok (.if_icmp .ge 31, 3) := by decide +kernel
theorem dX2_count_78 : decode cX2_count 78 = .ok (.iload_n 2, 1) := by decide +kernel
theorem dX2_count_79 : decode cX2_count 79 = .ok (.iload_n 1, 1) := by decide +kernel
theorem dX2_count_80 : decode cX2_count 80 = .ok (.iconst 2, 1) := by decide +kernel
theorem dX2_count_81 : decode cX2_count 81 = .ok (.if_icmp .ne 16, 3) := by decide +kernel
theorem dX2_count_84 : decode cX2_count 84 = .ok (.aload_n 0, 1) := by decide +kernel
theorem dX2_count_85 : decode cX2_count 85 = .ok (.getfield 16, 3) := by decide +kernel
theorem dX2_count_88 : decode cX2_count 88 = .ok (.iload_n 3, 1) := by decide +kernel
theorem dX2_count_89 : decode cX2_count 89 = .ok (.baload, 1) := by decide +kernel
theorem dX2_count_90 : decode cX2_count 90 = .ok (.ifCond .eq 7, 3) := by decide +kernel
theorem dX2_count_93 : decode cX2_count 93 = .ok (.iconst 1, 1) := by decide +kernel
theorem dX2_count_94 : decode cX2_count 94 = .ok (.goto 4, 3) := by decide +kernel
theorem dX2_count_97 : decode cX2_count 97 = .ok (.iconst 0, 1) := by decide +kernel
theorem dX2_count_98 : decode cX2_count 98 = .ok (.iadd, 1) := by decide +kernel
theorem dX2_count_99 : decode cX2_count 99 = .ok (.istore_n 2, 1) := by decide +kernel
theorem dX2_count_100 : decode cX2_count 100 = .ok (.iinc 3 1, 3) := by decide +kernel
theorem dX2_count_103 : decode cX2_count 103 = .ok (.goto (-31), 3) := by decide +kernel
theorem dX2_count_106 : decode cX2_count 106 = .ok (.iload_n 2, 1) := by decide +kernel
theorem dX2_count_107 : decode cX2_count 107 = .ok (.ireturn, 1) := by decide +kernel
abbrev cX2_greatest : ByteArray := prog_3_method_22_code
def yX2_greatest : MethodName := ⟨RX2, "greatest", "()I"⟩
theorem dX2_greatest_0 : decode cX2_greatest 0 = .ok (.iconst 0, 1) := by decide +kernel
theorem dX2_greatest_1 : decode cX2_greatest 1 = .ok (.istore_n 1, 1) := by decide +kernel
theorem dX2_greatest_2 : decode cX2_greatest 2 = .ok (.iconst 0, 1) := by decide +kernel
theorem dX2_greatest_3 : decode cX2_greatest 3 = .ok (.istore_n 2, 1) := by decide +kernel
theorem dX2_greatest_4 : decode cX2_greatest 4 = .ok (.iload_n 2, 1) := by decide +kernel
theorem dX2_greatest_5 : decode cX2_greatest 5 = .ok (.aload_n 0, 1) := by decide +kernel
theorem dX2_greatest_6 : decode cX2_greatest 6 = .ok (.getfield 23, 3) := by decide +kernel
theorem dX2_greatest_9 : decode cX2_greatest 9 = .ok (.if_icmp .ge 63, 3) := by decide +kernel
theorem dX2_greatest_12 : decode cX2_greatest 12 = .ok (.aload_n 0, 1) := by decide +kernel
theorem dX2_greatest_13 : decode cX2_greatest 13 = .ok (.iconst 0, 1) := by decide +kernel
theorem dX2_greatest_14 : decode cX2_greatest 14 = .ok (.iload_n 2, 1) := by decide +kernel
theorem dX2_greatest_15 : decode cX2_greatest 15 = .ok (.invokevirtual 57, 3) := by decide +kernel
theorem dX2_greatest_18 : decode cX2_greatest 18 = .ok (.iconst 0, 1) := by decide +kernel
theorem dX2_greatest_19 : decode cX2_greatest 19 = .ok (.istore_n 3, 1) := by decide +kernel
theorem dX2_greatest_20 : decode cX2_greatest 20 = .ok (.iload_n 3, 1) := by decide +kernel
theorem dX2_greatest_21 : decode cX2_greatest 21 = .ok (.aload_n 0, 1) := by decide +kernel
theorem dX2_greatest_22 : decode cX2_greatest 22 = .ok (.getfield 23, 3) := by decide +kernel
theorem dX2_greatest_25 : decode cX2_greatest 25 = .ok (.if_icmp .ge 41, 3) := by decide +kernel
theorem dX2_greatest_28 : decode cX2_greatest 28 = .ok (.aload_n 0, 1) := by decide +kernel
theorem dX2_greatest_29 : decode cX2_greatest 29 = .ok (.getfield 20, 3) := by decide +kernel
theorem dX2_greatest_32 : decode cX2_greatest 32 = .ok (.iload_n 3, 1) := by decide +kernel
theorem dX2_greatest_33 : decode cX2_greatest 33 = .ok (.iaload, 1) := by decide +kernel
theorem dX2_greatest_34 : decode cX2_greatest 34 = .ok (.ldc 42, 2) := by decide +kernel
theorem dX2_greatest_36 : decode cX2_greatest 36 = .ok (.if_icmp .ge 22, 3) := by decide +kernel
theorem dX2_greatest_39 : decode cX2_greatest 39 = .ok (.aload_n 0, 1) := by decide +kernel
theorem dX2_greatest_40 : decode cX2_greatest 40 = .ok (.getfield 20, 3) := by decide +kernel
theorem dX2_greatest_43 : decode cX2_greatest 43 = .ok (.iload_n 3, 1) := by decide +kernel
theorem dX2_greatest_44 : decode cX2_greatest 44 = .ok (.iaload, 1) := by decide +kernel
theorem dX2_greatest_45 : decode cX2_greatest 45 = .ok (.iload_n 1, 1) := by decide +kernel
theorem dX2_greatest_46 : decode cX2_greatest 46 = .ok (.if_icmp .le 12, 3) := by decide +kernel
theorem dX2_greatest_49 : decode cX2_greatest 49 = .ok (.aload_n 0, 1) := by decide +kernel
theorem dX2_greatest_50 : decode cX2_greatest 50 = .ok (.getfield 20, 3) := by decide +kernel
theorem dX2_greatest_53 : decode cX2_greatest 53 = .ok (.iload_n 3, 1) := by decide +kernel
theorem dX2_greatest_54 : decode cX2_greatest 54 = .ok (.iaload, 1) := by decide +kernel
theorem dX2_greatest_55 : decode cX2_greatest 55 = .ok (.goto 4, 3) := by decide +kernel
theorem dX2_greatest_58 : decode cX2_greatest 58 = .ok (.iload_n 1, 1) := by decide +kernel
theorem dX2_greatest_59 : decode cX2_greatest 59 = .ok (.istore_n 1, 1) := by decide +kernel
theorem dX2_greatest_60 : decode cX2_greatest 60 = .ok (.iinc 3 1, 3) := by decide +kernel
theorem dX2_greatest_63 : decode cX2_greatest 63 = .ok (.goto (-43), 3) := by decide +kernel
theorem dX2_greatest_66 : decode cX2_greatest 66 = .ok (.iinc 2 1, 3) := by decide +kernel
theorem dX2_greatest_69 : decode cX2_greatest 69 = .ok (.goto (-65), 3) := by decide +kernel
theorem dX2_greatest_72 : decode cX2_greatest 72 = .ok (.iload_n 1, 1) := by decide +kernel
theorem dX2_greatest_73 : decode cX2_greatest 73 = .ok (.ireturn, 1) := by decide +kernel
theorem q21 : (Jvm.Cond.initialized "WireWaysModel") ∈ lw_all := lw_g (lw_at lw_m1 3 rfl) rfl
theorem q155 : (Jvm.Cond.instantiable "WireWaysModel" (7 : Nat)) ∈ lw_all := lw_g (lw_at lw_m1 137 rfl) rfl
theorem q157 : (Jvm.Cond.instanceMethod ({ cls := "WireWaysModel", name := "<init>", desc := "(I)V" } : Jvm.MethodName)) ∈ lw_all := lw_g (lw_at lw_m1 139 rfl) rfl
theorem q158 : (Jvm.Cond.code ({ cls := "WireWaysModel", name := "<init>", desc := "(I)V" } : Jvm.MethodName) prog_3_method_1_code (3 : Nat) (Option.none : Option Jvm.ClassFile.FieldType)) ∈ lw_all := lw_g (lw_at lw_m1 140 rfl) rfl
theorem q159 : (Jvm.Cond.methodLink "WireWaysModel" (1 : Nat) ({ cls := "java/lang/Object", name := "<init>", desc := "()V" } : Jvm.MethodName)) ∈ lw_all := lw_g (lw_at lw_m1 141 rfl) rfl
theorem q160 : (Jvm.Cond.fieldLink "WireWaysModel" (23 : Nat) "WireWaysModel" "routers" "I") ∈ lw_all := lw_g (lw_at lw_m1 142 rfl) rfl
theorem q161 : (Jvm.Cond.fieldLink "WireWaysModel" (7 : Nat) "WireWaysModel" "wireOf" "[I") ∈ lw_all := lw_g (lw_at lw_m1 143 rfl) rfl
theorem q162 : (Jvm.Cond.fieldLink "WireWaysModel" (13 : Nat) "WireWaysModel" "costOf" "[I") ∈ lw_all := lw_g (lw_at lw_m1 144 rfl) rfl
theorem q163 : (Jvm.Cond.fieldLink "WireWaysModel" (16 : Nat) "WireWaysModel" "isCut" "[Z") ∈ lw_all := lw_g (lw_at lw_m1 145 rfl) rfl
theorem q164 : (Jvm.Cond.fieldLink "WireWaysModel" (20 : Nat) "WireWaysModel" "distance" "[I") ∈ lw_all := lw_g (lw_at lw_m1 146 rfl) rfl
theorem q165 : (Jvm.Cond.fieldLink "WireWaysModel" (51 : Nat) "WireWaysModel" "wayPort" "I") ∈ lw_all := lw_g (lw_at lw_m1 147 rfl) rfl
theorem q166 : (Jvm.Cond.fieldLink "WireWaysModel" (54 : Nat) "WireWaysModel" "wayRouter" "I") ∈ lw_all := lw_g (lw_at lw_m1 148 rfl) rfl
theorem q167 : (Jvm.Cond.laysFinal "WireWaysModel" "WireWaysModel" "routers" "I") ∈ lw_all := lw_g (lw_at lw_m1 149 rfl) rfl
theorem q168 : (Jvm.Cond.soleField "WireWaysModel" "routers") ∈ lw_all := lw_g (lw_at lw_m1 150 rfl) rfl
theorem q169 : (Jvm.Cond.laysFinal "WireWaysModel" "WireWaysModel" "wireOf" "[I") ∈ lw_all := lw_g (lw_at lw_m1 151 rfl) rfl
theorem q170 : (Jvm.Cond.soleField "WireWaysModel" "wireOf") ∈ lw_all := lw_g (lw_at lw_m1 152 rfl) rfl
theorem q171 : (Jvm.Cond.laysFinal "WireWaysModel" "WireWaysModel" "costOf" "[I") ∈ lw_all := lw_g (lw_at lw_m1 153 rfl) rfl
theorem q172 : (Jvm.Cond.soleField "WireWaysModel" "costOf") ∈ lw_all := lw_g (lw_at lw_m1 154 rfl) rfl
theorem q173 : (Jvm.Cond.laysFinal "WireWaysModel" "WireWaysModel" "isCut" "[Z") ∈ lw_all := lw_g (lw_at lw_m1 155 rfl) rfl
theorem q174 : (Jvm.Cond.soleField "WireWaysModel" "isCut") ∈ lw_all := lw_g (lw_at lw_m1 156 rfl) rfl
theorem q175 : (Jvm.Cond.laysFinal "WireWaysModel" "WireWaysModel" "distance" "[I") ∈ lw_all := lw_g (lw_at lw_m1 157 rfl) rfl
theorem q176 : (Jvm.Cond.soleField "WireWaysModel" "distance") ∈ lw_all := lw_g (lw_at lw_m1 158 rfl) rfl
theorem q177 : (Jvm.Cond.lays "WireWaysModel" "WireWaysModel" "wayPort" "I") ∈ lw_all := lw_g (lw_at lw_m1 159 rfl) rfl
theorem q178 : (Jvm.Cond.soleField "WireWaysModel" "wayPort") ∈ lw_all := lw_g (lw_at lw_m1 160 rfl) rfl
theorem q179 : (Jvm.Cond.lays "WireWaysModel" "WireWaysModel" "wayRouter" "I") ∈ lw_all := lw_g (lw_at lw_m1 161 rfl) rfl
theorem q180 : (Jvm.Cond.soleField "WireWaysModel" "wayRouter") ∈ lw_all := lw_g (lw_at lw_m1 162 rfl) rfl
theorem q181 : (Jvm.Cond.superclass "WireWaysModel" "java/lang/Object") ∈ lw_all := lw_g (lw_at lw_m1 163 rfl) rfl
theorem q183 : (Jvm.Cond.instanceMethod ({ cls := "WireWaysModel", name := "plug", desc := "(IIII)Z" } : Jvm.MethodName)) ∈ lw_all := lw_g (lw_at lw_m1 165 rfl) rfl
theorem q184 : (Jvm.Cond.selects "WireWaysModel" ({ cls := "WireWaysModel", name := "plug", desc := "(IIII)Z" } : Jvm.MethodName) ({ cls := "WireWaysModel", name := "plug", desc := "(IIII)Z" } : Jvm.MethodName)) ∈ lw_all := lw_g (lw_at lw_m1 166 rfl) rfl
theorem q185 : (Jvm.Cond.code ({ cls := "WireWaysModel", name := "plug", desc := "(IIII)Z" } : Jvm.MethodName) prog_3_method_7_code (5 : Nat) (Option.some Jvm.ClassFile.FieldType.boolean)) ∈ lw_all := lw_g (lw_at lw_m1 167 rfl) rfl
theorem q186 : (Jvm.Cond.methodLink "WireWaysModel" (31 : Nat) ({ cls := "WireWaysModel", name := "isPlace", desc := "(II)Z" } : Jvm.MethodName)) ∈ lw_all := lw_g (lw_at lw_m1 168 rfl) rfl
theorem q187 : (Jvm.Cond.privateMethod ({ cls := "WireWaysModel", name := "isPlace", desc := "(II)Z" } : Jvm.MethodName)) ∈ lw_tbl := lw_at lw_m1 169 rfl
theorem q188 : (Jvm.Cond.instanceMethod ({ cls := "WireWaysModel", name := "isPlace", desc := "(II)Z" } : Jvm.MethodName)) ∈ lw_all := lw_g (lw_at lw_m1 170 rfl) rfl
theorem q189 : (Jvm.Cond.code ({ cls := "WireWaysModel", name := "isPlace", desc := "(II)Z" } : Jvm.MethodName) prog_3_method_5_code (3 : Nat) (Option.some Jvm.ClassFile.FieldType.boolean)) ∈ lw_all := lw_g (lw_at lw_m1 171 rfl) rfl
theorem q190 : (Jvm.Cond.methodLink "WireWaysModel" (27 : Nat) ({ cls := "WireWaysModel", name := "isRouter", desc := "(I)Z" } : Jvm.MethodName)) ∈ lw_all := lw_g (lw_at lw_m1 172 rfl) rfl
theorem q191 : (Jvm.Cond.privateMethod ({ cls := "WireWaysModel", name := "isRouter", desc := "(I)Z" } : Jvm.MethodName)) ∈ lw_tbl := lw_at lw_m1 173 rfl
theorem q192 : (Jvm.Cond.instanceMethod ({ cls := "WireWaysModel", name := "isRouter", desc := "(I)Z" } : Jvm.MethodName)) ∈ lw_all := lw_g (lw_at lw_m1 174 rfl) rfl
theorem q193 : (Jvm.Cond.code ({ cls := "WireWaysModel", name := "isRouter", desc := "(I)Z" } : Jvm.MethodName) prog_3_method_3_code (2 : Nat) (Option.some Jvm.ClassFile.FieldType.boolean)) ∈ lw_all := lw_g (lw_at lw_m1 175 rfl) rfl
theorem q194 : (Jvm.Cond.methodLink "WireWaysModel" (35 : Nat) ({ cls := "WireWaysModel", name := "isWire", desc := "(I)Z" } : Jvm.MethodName)) ∈ lw_all := lw_g (lw_at lw_m1 176 rfl) rfl
theorem q195 : (Jvm.Cond.static ({ cls := "WireWaysModel", name := "isWire", desc := "(I)Z" } : Jvm.MethodName)) ∈ lw_all := lw_g (lw_at lw_m1 177 rfl) rfl
theorem q196 : (Jvm.Cond.code ({ cls := "WireWaysModel", name := "isWire", desc := "(I)Z" } : Jvm.MethodName) prog_3_method_4_code (1 : Nat) (Option.some Jvm.ClassFile.FieldType.boolean)) ∈ lw_all := lw_g (lw_at lw_m1 178 rfl) rfl
theorem q197 : (Jvm.Cond.methodLink "WireWaysModel" (38 : Nat) ({ cls := "WireWaysModel", name := "portOn", desc := "(II)I" } : Jvm.MethodName)) ∈ lw_all := lw_g (lw_at lw_m1 179 rfl) rfl
theorem q198 : (Jvm.Cond.privateMethod ({ cls := "WireWaysModel", name := "portOn", desc := "(II)I" } : Jvm.MethodName)) ∈ lw_tbl := lw_at lw_m1 180 rfl
theorem q199 : (Jvm.Cond.instanceMethod ({ cls := "WireWaysModel", name := "portOn", desc := "(II)I" } : Jvm.MethodName)) ∈ lw_all := lw_g (lw_at lw_m1 181 rfl) rfl
theorem q200 : (Jvm.Cond.code ({ cls := "WireWaysModel", name := "portOn", desc := "(II)I" } : Jvm.MethodName) prog_3_method_6_code (4 : Nat) (Option.some Jvm.ClassFile.FieldType.int)) ∈ lw_all := lw_g (lw_at lw_m1 182 rfl) rfl
theorem q202 : (Jvm.Cond.instanceMethod ({ cls := "WireWaysModel", name := "draw", desc := "(II)Z" } : Jvm.MethodName)) ∈ lw_all := lw_g (lw_at lw_m1 184 rfl) rfl
theorem q203 : (Jvm.Cond.selects "WireWaysModel" ({ cls := "WireWaysModel", name := "draw", desc := "(II)Z" } : Jvm.MethodName) ({ cls := "WireWaysModel", name := "draw", desc := "(II)Z" } : Jvm.MethodName)) ∈ lw_all := lw_g (lw_at lw_m1 185 rfl) rfl
theorem q204 : (Jvm.Cond.code ({ cls := "WireWaysModel", name := "draw", desc := "(II)Z" } : Jvm.MethodName) prog_3_method_8_code (3 : Nat) (Option.some Jvm.ClassFile.FieldType.boolean)) ∈ lw_all := lw_g (lw_at lw_m1 186 rfl) rfl
theorem q206 : (Jvm.Cond.instanceMethod ({ cls := "WireWaysModel", name := "cost", desc := "(III)I" } : Jvm.MethodName)) ∈ lw_all := lw_g (lw_at lw_m1 188 rfl) rfl
theorem q207 : (Jvm.Cond.selects "WireWaysModel" ({ cls := "WireWaysModel", name := "cost", desc := "(III)I" } : Jvm.MethodName) ({ cls := "WireWaysModel", name := "cost", desc := "(III)I" } : Jvm.MethodName)) ∈ lw_all := lw_g (lw_at lw_m1 189 rfl) rfl
theorem q208 : (Jvm.Cond.code ({ cls := "WireWaysModel", name := "cost", desc := "(III)I" } : Jvm.MethodName) prog_3_method_9_code (5 : Nat) (Option.some Jvm.ClassFile.FieldType.int)) ∈ lw_all := lw_g (lw_at lw_m1 190 rfl) rfl
theorem q210 : (Jvm.Cond.instanceMethod ({ cls := "WireWaysModel", name := "cut", desc := "(I)Z" } : Jvm.MethodName)) ∈ lw_all := lw_g (lw_at lw_m1 192 rfl) rfl
theorem q211 : (Jvm.Cond.selects "WireWaysModel" ({ cls := "WireWaysModel", name := "cut", desc := "(I)Z" } : Jvm.MethodName) ({ cls := "WireWaysModel", name := "cut", desc := "(I)Z" } : Jvm.MethodName)) ∈ lw_all := lw_g (lw_at lw_m1 193 rfl) rfl
theorem q212 : (Jvm.Cond.code ({ cls := "WireWaysModel", name := "cut", desc := "(I)Z" } : Jvm.MethodName) prog_3_method_10_code (2 : Nat) (Option.some Jvm.ClassFile.FieldType.boolean)) ∈ lw_all := lw_g (lw_at lw_m1 194 rfl) rfl
theorem q214 : (Jvm.Cond.instanceMethod ({ cls := "WireWaysModel", name := "mend", desc := "(I)Z" } : Jvm.MethodName)) ∈ lw_all := lw_g (lw_at lw_m1 196 rfl) rfl
theorem q215 : (Jvm.Cond.selects "WireWaysModel" ({ cls := "WireWaysModel", name := "mend", desc := "(I)Z" } : Jvm.MethodName) ({ cls := "WireWaysModel", name := "mend", desc := "(I)Z" } : Jvm.MethodName)) ∈ lw_all := lw_g (lw_at lw_m1 197 rfl) rfl
theorem q216 : (Jvm.Cond.code ({ cls := "WireWaysModel", name := "mend", desc := "(I)Z" } : Jvm.MethodName) prog_3_method_11_code (2 : Nat) (Option.some Jvm.ClassFile.FieldType.boolean)) ∈ lw_all := lw_g (lw_at lw_m1 198 rfl) rfl
theorem q218 : (Jvm.Cond.instanceMethod ({ cls := "WireWaysModel", name := "far", desc := "(IZI)I" } : Jvm.MethodName)) ∈ lw_all := lw_g (lw_at lw_m1 200 rfl) rfl
theorem q219 : (Jvm.Cond.selects "WireWaysModel" ({ cls := "WireWaysModel", name := "far", desc := "(IZI)I" } : Jvm.MethodName) ({ cls := "WireWaysModel", name := "far", desc := "(IZI)I" } : Jvm.MethodName)) ∈ lw_all := lw_g (lw_at lw_m1 201 rfl) rfl
theorem q220 : (Jvm.Cond.code ({ cls := "WireWaysModel", name := "far", desc := "(IZI)I" } : Jvm.MethodName) prog_3_method_17_code (4 : Nat) (Option.some Jvm.ClassFile.FieldType.int)) ∈ lw_all := lw_g (lw_at lw_m1 202 rfl) rfl
theorem q221 : (Jvm.Cond.methodLink "WireWaysModel" (65 : Nat) ({ cls := "WireWaysModel", name := "isAsked", desc := "(IZI)Z" } : Jvm.MethodName)) ∈ lw_all := lw_g (lw_at lw_m1 203 rfl) rfl
theorem q222 : (Jvm.Cond.privateMethod ({ cls := "WireWaysModel", name := "isAsked", desc := "(IZI)Z" } : Jvm.MethodName)) ∈ lw_tbl := lw_at lw_m1 204 rfl
theorem q223 : (Jvm.Cond.instanceMethod ({ cls := "WireWaysModel", name := "isAsked", desc := "(IZI)Z" } : Jvm.MethodName)) ∈ lw_all := lw_g (lw_at lw_m1 205 rfl) rfl
theorem q224 : (Jvm.Cond.code ({ cls := "WireWaysModel", name := "isAsked", desc := "(IZI)Z" } : Jvm.MethodName) prog_3_method_16_code (4 : Nat) (Option.some Jvm.ClassFile.FieldType.boolean)) ∈ lw_all := lw_g (lw_at lw_m1 206 rfl) rfl
theorem q225 : (Jvm.Cond.methodLink "WireWaysModel" (57 : Nat) ({ cls := "WireWaysModel", name := "reckon", desc := "(ZI)V" } : Jvm.MethodName)) ∈ lw_all := lw_g (lw_at lw_m1 207 rfl) rfl
theorem q226 : (Jvm.Cond.privateMethod ({ cls := "WireWaysModel", name := "reckon", desc := "(ZI)V" } : Jvm.MethodName)) ∈ lw_tbl := lw_at lw_m1 208 rfl
theorem q227 : (Jvm.Cond.instanceMethod ({ cls := "WireWaysModel", name := "reckon", desc := "(ZI)V" } : Jvm.MethodName)) ∈ lw_all := lw_g (lw_at lw_m1 209 rfl) rfl
theorem q228 : (Jvm.Cond.code ({ cls := "WireWaysModel", name := "reckon", desc := "(ZI)V" } : Jvm.MethodName) prog_3_method_14_code (7 : Nat) (Option.none : Option Jvm.ClassFile.FieldType)) ∈ lw_all := lw_g (lw_at lw_m1 210 rfl) rfl
theorem q229 : (Jvm.Cond.methodLink "WireWaysModel" (43 : Nat) ({ cls := "WireWaysModel", name := "isAt", desc := "(IZI)Z" } : Jvm.MethodName)) ∈ lw_all := lw_g (lw_at lw_m1 211 rfl) rfl
theorem q230 : (Jvm.Cond.privateMethod ({ cls := "WireWaysModel", name := "isAt", desc := "(IZI)Z" } : Jvm.MethodName)) ∈ lw_tbl := lw_at lw_m1 212 rfl
theorem q231 : (Jvm.Cond.instanceMethod ({ cls := "WireWaysModel", name := "isAt", desc := "(IZI)Z" } : Jvm.MethodName)) ∈ lw_all := lw_g (lw_at lw_m1 213 rfl) rfl
theorem q232 : (Jvm.Cond.code ({ cls := "WireWaysModel", name := "isAt", desc := "(IZI)Z" } : Jvm.MethodName) prog_3_method_12_code (4 : Nat) (Option.some Jvm.ClassFile.FieldType.boolean)) ∈ lw_all := lw_g (lw_at lw_m1 214 rfl) rfl
theorem q233 : (Jvm.Cond.constant "WireWaysModel" (42 : Nat) (100000 : Int32)) ∈ lw_all := lw_g (lw_at lw_m1 215 rfl) rfl
theorem q234 : (Jvm.Cond.methodLink "WireWaysModel" (47 : Nat) ({ cls := "WireWaysModel", name := "by", desc := "(III)I" } : Jvm.MethodName)) ∈ lw_all := lw_g (lw_at lw_m1 216 rfl) rfl
theorem q235 : (Jvm.Cond.privateMethod ({ cls := "WireWaysModel", name := "by", desc := "(III)I" } : Jvm.MethodName)) ∈ lw_tbl := lw_at lw_m1 217 rfl
theorem q236 : (Jvm.Cond.instanceMethod ({ cls := "WireWaysModel", name := "by", desc := "(III)I" } : Jvm.MethodName)) ∈ lw_all := lw_g (lw_at lw_m1 218 rfl) rfl
theorem q237 : (Jvm.Cond.code ({ cls := "WireWaysModel", name := "by", desc := "(III)I" } : Jvm.MethodName) prog_3_method_13_code (5 : Nat) (Option.some Jvm.ClassFile.FieldType.int)) ∈ lw_all := lw_g (lw_at lw_m1 219 rfl) rfl
theorem q238 : (Jvm.Cond.methodLink "WireWaysModel" (61 : Nat) ({ cls := "WireWaysModel", name := "choose", desc := "(IZI)V" } : Jvm.MethodName)) ∈ lw_all := lw_g (lw_at lw_m1 220 rfl) rfl
theorem q239 : (Jvm.Cond.privateMethod ({ cls := "WireWaysModel", name := "choose", desc := "(IZI)V" } : Jvm.MethodName)) ∈ lw_tbl := lw_at lw_m1 221 rfl
theorem q240 : (Jvm.Cond.instanceMethod ({ cls := "WireWaysModel", name := "choose", desc := "(IZI)V" } : Jvm.MethodName)) ∈ lw_all := lw_g (lw_at lw_m1 222 rfl) rfl
theorem q241 : (Jvm.Cond.code ({ cls := "WireWaysModel", name := "choose", desc := "(IZI)V" } : Jvm.MethodName) prog_3_method_15_code (7 : Nat) (Option.none : Option Jvm.ClassFile.FieldType)) ∈ lw_all := lw_g (lw_at lw_m1 223 rfl) rfl
theorem q243 : (Jvm.Cond.instanceMethod ({ cls := "WireWaysModel", name := "port", desc := "(IZI)I" } : Jvm.MethodName)) ∈ lw_all := lw_g (lw_at lw_m1 225 rfl) rfl
theorem q244 : (Jvm.Cond.selects "WireWaysModel" ({ cls := "WireWaysModel", name := "port", desc := "(IZI)I" } : Jvm.MethodName) ({ cls := "WireWaysModel", name := "port", desc := "(IZI)I" } : Jvm.MethodName)) ∈ lw_all := lw_g (lw_at lw_m1 226 rfl) rfl
theorem q245 : (Jvm.Cond.code ({ cls := "WireWaysModel", name := "port", desc := "(IZI)I" } : Jvm.MethodName) prog_3_method_18_code (4 : Nat) (Option.some Jvm.ClassFile.FieldType.int)) ∈ lw_all := lw_g (lw_at lw_m1 227 rfl) rfl
theorem q247 : (Jvm.Cond.instanceMethod ({ cls := "WireWaysModel", name := "next", desc := "(IZI)I" } : Jvm.MethodName)) ∈ lw_all := lw_g (lw_at lw_m1 229 rfl) rfl
theorem q248 : (Jvm.Cond.selects "WireWaysModel" ({ cls := "WireWaysModel", name := "next", desc := "(IZI)I" } : Jvm.MethodName) ({ cls := "WireWaysModel", name := "next", desc := "(IZI)I" } : Jvm.MethodName)) ∈ lw_all := lw_g (lw_at lw_m1 230 rfl) rfl
theorem q249 : (Jvm.Cond.code ({ cls := "WireWaysModel", name := "next", desc := "(IZI)I" } : Jvm.MethodName) prog_3_method_19_code (4 : Nat) (Option.some Jvm.ClassFile.FieldType.int)) ∈ lw_all := lw_g (lw_at lw_m1 231 rfl) rfl
theorem q251 : (Jvm.Cond.instanceMethod ({ cls := "WireWaysModel", name := "walk", desc := "(IZII)I" } : Jvm.MethodName)) ∈ lw_all := lw_g (lw_at lw_m1 233 rfl) rfl
theorem q252 : (Jvm.Cond.selects "WireWaysModel" ({ cls := "WireWaysModel", name := "walk", desc := "(IZII)I" } : Jvm.MethodName) ({ cls := "WireWaysModel", name := "walk", desc := "(IZII)I" } : Jvm.MethodName)) ∈ lw_all := lw_g (lw_at lw_m1 234 rfl) rfl
theorem q253 : (Jvm.Cond.code ({ cls := "WireWaysModel", name := "walk", desc := "(IZII)I" } : Jvm.MethodName) prog_3_method_20_code (7 : Nat) (Option.some Jvm.ClassFile.FieldType.int)) ∈ lw_all := lw_g (lw_at lw_m1 235 rfl) rfl
theorem q254 : (Jvm.Cond.methodLink "WireWaysModel" (68 : Nat) ({ cls := "WireWaysModel", name := "far", desc := "(IZI)I" } : Jvm.MethodName)) ∈ lw_all := lw_g (lw_at lw_m1 236 rfl) rfl
theorem q256 : (Jvm.Cond.instanceMethod ({ cls := "WireWaysModel", name := "reach", desc := "(I)I" } : Jvm.MethodName)) ∈ lw_all := lw_g (lw_at lw_m1 238 rfl) rfl
theorem q257 : (Jvm.Cond.selects "WireWaysModel" ({ cls := "WireWaysModel", name := "reach", desc := "(I)I" } : Jvm.MethodName) ({ cls := "WireWaysModel", name := "reach", desc := "(I)I" } : Jvm.MethodName)) ∈ lw_all := lw_g (lw_at lw_m1 239 rfl) rfl
theorem q258 : (Jvm.Cond.code ({ cls := "WireWaysModel", name := "reach", desc := "(I)I" } : Jvm.MethodName) prog_3_method_21_code (4 : Nat) (Option.some Jvm.ClassFile.FieldType.int)) ∈ lw_all := lw_g (lw_at lw_m2 0 rfl) rfl
theorem q260 : (Jvm.Cond.instanceMethod ({ cls := "WireWaysModel", name := "count", desc := "(I)I" } : Jvm.MethodName)) ∈ lw_all := lw_g (lw_at lw_m2 2 rfl) rfl
theorem q261 : (Jvm.Cond.selects "WireWaysModel" ({ cls := "WireWaysModel", name := "count", desc := "(I)I" } : Jvm.MethodName) ({ cls := "WireWaysModel", name := "count", desc := "(I)I" } : Jvm.MethodName)) ∈ lw_all := lw_g (lw_at lw_m2 3 rfl) rfl
theorem q262 : (Jvm.Cond.code ({ cls := "WireWaysModel", name := "count", desc := "(I)I" } : Jvm.MethodName) prog_3_method_23_code (4 : Nat) (Option.some Jvm.ClassFile.FieldType.int)) ∈ lw_all := lw_g (lw_at lw_m2 4 rfl) rfl
theorem q263 : (Jvm.Cond.methodLink "WireWaysModel" (72 : Nat) ({ cls := "WireWaysModel", name := "greatest", desc := "()I" } : Jvm.MethodName)) ∈ lw_all := lw_g (lw_at lw_m2 5 rfl) rfl
theorem q264 : (Jvm.Cond.privateMethod ({ cls := "WireWaysModel", name := "greatest", desc := "()I" } : Jvm.MethodName)) ∈ lw_tbl := lw_at lw_m2 6 rfl
theorem q265 : (Jvm.Cond.instanceMethod ({ cls := "WireWaysModel", name := "greatest", desc := "()I" } : Jvm.MethodName)) ∈ lw_all := lw_g (lw_at lw_m2 7 rfl) rfl
theorem q266 : (Jvm.Cond.code ({ cls := "WireWaysModel", name := "greatest", desc := "()I" } : Jvm.MethodName) prog_3_method_22_code (4 : Nat) (Option.some Jvm.ClassFile.FieldType.int)) ∈ lw_all := lw_g (lw_at lw_m2 8 rfl) rfl
theorem in_X2 : ∀ w ∈ wsX20, w ∈ lw_all := lw_in wsX20 [167, 169, 171, 173, 175, 177, 179] (by decide +kernel) (by decide +kernel)
end
section
set_option maxRecDepth 100000
/-! java/lang/Math -/
def RJ0 : String := "java/lang/Math"
abbrev cJ0_min : ByteArray := prog_4_method_69_code
def yJ0_min : MethodName := ⟨RJ0, "min", "(II)I"⟩
theorem dJ0_min_0 : decode cJ0_min 0 = .ok (.iload_n 0, 1) := by decide +kernel
theorem dJ0_min_1 : decode cJ0_min 1 = .ok (.iload_n 1, 1) := by decide +kernel
theorem dJ0_min_2 : decode cJ0_min 2 = .ok (.if_icmp .gt 7, 3) := by decide +kernel
theorem dJ0_min_5 : decode cJ0_min 5 = .ok (.iload_n 0, 1) := by decide +kernel
theorem dJ0_min_6 : decode cJ0_min 6 = .ok (.goto 4, 3) := by decide +kernel
theorem dJ0_min_9 : decode cJ0_min 9 = .ok (.iload_n 1, 1) := by decide +kernel
theorem dJ0_min_10 : decode cJ0_min 10 = .ok (.ireturn, 1) := by decide +kernel
abbrev cJ0_max : ByteArray := prog_4_method_65_code
def yJ0_max : MethodName := ⟨RJ0, "max", "(II)I"⟩
theorem dJ0_max_0 : decode cJ0_max 0 = .ok (.iload_n 0, 1) := by decide +kernel
theorem dJ0_max_1 : decode cJ0_max 1 = .ok (.iload_n 1, 1) := by decide +kernel
theorem dJ0_max_2 : decode cJ0_max 2 = .ok (.if_icmp .lt 7, 3) := by decide +kernel
theorem dJ0_max_5 : decode cJ0_max 5 = .ok (.iload_n 0, 1) := by decide +kernel
theorem dJ0_max_6 : decode cJ0_max 6 = .ok (.goto 4, 3) := by decide +kernel
theorem dJ0_max_9 : decode cJ0_max 9 = .ok (.iload_n 1, 1) := by decide +kernel
theorem dJ0_max_10 : decode cJ0_max 10 = .ok (.ireturn, 1) := by decide +kernel
theorem q20 : (Jvm.Cond.initialized "java/lang/Math") ∈ lw_all := lw_g (lw_at lw_m1 2 rfl) rfl
theorem q31 : (Jvm.Cond.static ({ cls := "java/lang/Math", name := "min", desc := "(II)I" } : Jvm.MethodName)) ∈ lw_all := lw_g (lw_at lw_m1 13 rfl) rfl
theorem q32 : (Jvm.Cond.code ({ cls := "java/lang/Math", name := "min", desc := "(II)I" } : Jvm.MethodName) prog_4_method_69_code (2 : Nat) (Option.some Jvm.ClassFile.FieldType.int)) ∈ lw_all := lw_g (lw_at lw_m1 14 rfl) rfl
theorem q34 : (Jvm.Cond.static ({ cls := "java/lang/Math", name := "max", desc := "(II)I" } : Jvm.MethodName)) ∈ lw_all := lw_g (lw_at lw_m1 16 rfl) rfl
theorem q35 : (Jvm.Cond.code ({ cls := "java/lang/Math", name := "max", desc := "(II)I" } : Jvm.MethodName) prog_4_method_65_code (2 : Nat) (Option.some Jvm.ClassFile.FieldType.int)) ∈ lw_all := lw_g (lw_at lw_m1 17 rfl) rfl
/-! java/lang/Object -/
def RJ1 : String := "java/lang/Object"
abbrev cJ1_init : ByteArray := object_method_1_code
def yJ1_init : MethodName := ⟨RJ1, "<init>", "()V"⟩
theorem dJ1_init_0 : decode cJ1_init 0 = .ok (.return_, 1) := by decide +kernel
theorem q28 : (Jvm.Cond.instanceMethod ({ cls := "java/lang/Object", name := "<init>", desc := "()V" } : Jvm.MethodName)) ∈ lw_all := lw_g (lw_at lw_m1 10 rfl) rfl
theorem q29 : (Jvm.Cond.code ({ cls := "java/lang/Object", name := "<init>", desc := "()V" } : Jvm.MethodName) object_method_1_code (1 : Nat) (Option.none : Option Jvm.ClassFile.FieldType)) ∈ lw_all := lw_g (lw_at lw_m1 11 rfl) rfl
theorem q67 : (Jvm.Cond.arrayClass Jvm.ClassFile.FieldType.int) ∈ lw_all := lw_g (lw_at lw_m1 49 rfl) rfl
theorem q68 : (Jvm.Cond.arrayClass Jvm.ClassFile.FieldType.boolean) ∈ lw_all := lw_g (lw_at lw_m1 50 rfl) rfl
/-! WireWaysLaw -/
def RX0 : String := "WireWaysLaw"
abbrev cX0_cell : ByteArray := method_2_code
def yX0_cell : MethodName := ⟨RX0, "cell", "([II)I"⟩
theorem dX0_cell_0 : decode cX0_cell 0 = .ok (.iload_n 1, 1) := by decide +kernel
theorem dX0_cell_1 : decode cX0_cell 1 = .ok (.aload_n 0, 1) := by decide +kernel
theorem dX0_cell_2 : decode cX0_cell 2 = .ok (.arraylength, 1) := by decide +kernel
theorem dX0_cell_3 : decode cX0_cell 3 = .ok (.if_icmp .ge 9, 3) := by decide +kernel
theorem dX0_cell_6 : decode cX0_cell 6 = .ok (.aload_n 0, 1) := by decide +kernel
theorem dX0_cell_7 : decode cX0_cell 7 = .ok (.iload_n 1, 1) := by decide +kernel
theorem dX0_cell_8 : decode cX0_cell 8 = .ok (.iaload, 1) := by decide +kernel
theorem dX0_cell_9 : decode cX0_cell 9 = .ok (.goto 4, 3) := by decide +kernel
theorem dX0_cell_12 : decode cX0_cell 12 = .ok (.iconst 0, 1) := by decide +kernel
theorem dX0_cell_13 : decode cX0_cell 13 = .ok (.ireturn, 1) := by decide +kernel
theorem q18 : (Jvm.Cond.initialized "WireWaysLaw") ∈ lw_all := lw_g (lw_at lw_m1 0 rfl) rfl
theorem q22 : (Jvm.Cond.classLink "WireWaysLaw" (7 : Nat) "WireWays") ∈ lw_all := lw_g (lw_at lw_m1 4 rfl) rfl
theorem q24 : (Jvm.Cond.methodLink "WireWaysLaw" (15 : Nat) ({ cls := "WireWays", name := "<init>", desc := "(I)V" } : Jvm.MethodName)) ∈ lw_all := lw_g (lw_at lw_m1 6 rfl) rfl
theorem q69 : (Jvm.Cond.methodLink "WireWaysLaw" (21 : Nat) ({ cls := "WireWays", name := "plug", desc := "(IIII)Z" } : Jvm.MethodName)) ∈ lw_all := lw_g (lw_at lw_m1 51 rfl) rfl
theorem q77 : (Jvm.Cond.methodLink "WireWaysLaw" (26 : Nat) ({ cls := "WireWays", name := "draw", desc := "(II)Z" } : Jvm.MethodName)) ∈ lw_all := lw_g (lw_at lw_m1 59 rfl) rfl
theorem q81 : (Jvm.Cond.methodLink "WireWaysLaw" (31 : Nat) ({ cls := "WireWays", name := "cost", desc := "(III)I" } : Jvm.MethodName)) ∈ lw_all := lw_g (lw_at lw_m1 63 rfl) rfl
theorem q85 : (Jvm.Cond.methodLink "WireWaysLaw" (36 : Nat) ({ cls := "WireWays", name := "cut", desc := "(I)Z" } : Jvm.MethodName)) ∈ lw_all := lw_g (lw_at lw_m1 67 rfl) rfl
theorem q93 : (Jvm.Cond.methodLink "WireWaysLaw" (41 : Nat) ({ cls := "WireWays", name := "mend", desc := "(I)Z" } : Jvm.MethodName)) ∈ lw_all := lw_g (lw_at lw_m1 75 rfl) rfl
theorem q97 : (Jvm.Cond.methodLink "WireWaysLaw" (45 : Nat) ({ cls := "WireWays", name := "far", desc := "(IZI)I" } : Jvm.MethodName)) ∈ lw_all := lw_g (lw_at lw_m1 79 rfl) rfl
theorem q125 : (Jvm.Cond.methodLink "WireWaysLaw" (50 : Nat) ({ cls := "WireWays", name := "port", desc := "(IZI)I" } : Jvm.MethodName)) ∈ lw_all := lw_g (lw_at lw_m1 107 rfl) rfl
theorem q129 : (Jvm.Cond.methodLink "WireWaysLaw" (54 : Nat) ({ cls := "WireWays", name := "next", desc := "(IZI)I" } : Jvm.MethodName)) ∈ lw_all := lw_g (lw_at lw_m1 111 rfl) rfl
theorem q133 : (Jvm.Cond.methodLink "WireWaysLaw" (58 : Nat) ({ cls := "WireWays", name := "walk", desc := "(IZII)I" } : Jvm.MethodName)) ∈ lw_all := lw_g (lw_at lw_m1 115 rfl) rfl
theorem q139 : (Jvm.Cond.methodLink "WireWaysLaw" (63 : Nat) ({ cls := "WireWays", name := "reach", desc := "(I)I" } : Jvm.MethodName)) ∈ lw_all := lw_g (lw_at lw_m1 121 rfl) rfl
theorem q143 : (Jvm.Cond.methodLink "WireWaysLaw" (68 : Nat) ({ cls := "WireWays", name := "count", desc := "(I)I" } : Jvm.MethodName)) ∈ lw_all := lw_g (lw_at lw_m1 125 rfl) rfl
theorem q151 : (Jvm.Cond.methodLink "WireWaysLaw" (9 : Nat) ({ cls := "WireWaysLaw", name := "cell", desc := "([II)I" } : Jvm.MethodName)) ∈ lw_all := lw_g (lw_at lw_m1 133 rfl) rfl
theorem q152 : (Jvm.Cond.static ({ cls := "WireWaysLaw", name := "cell", desc := "([II)I" } : Jvm.MethodName)) ∈ lw_all := lw_g (lw_at lw_m1 134 rfl) rfl
theorem q153 : (Jvm.Cond.code ({ cls := "WireWaysLaw", name := "cell", desc := "([II)I" } : Jvm.MethodName) method_2_code (2 : Nat) (Option.some Jvm.ClassFile.FieldType.int)) ∈ lw_all := lw_g (lw_at lw_m1 135 rfl) rfl
theorem q154 : (Jvm.Cond.classLink "WireWaysLaw" (18 : Nat) "WireWaysModel") ∈ lw_all := lw_g (lw_at lw_m1 136 rfl) rfl
theorem q156 : (Jvm.Cond.methodLink "WireWaysLaw" (20 : Nat) ({ cls := "WireWaysModel", name := "<init>", desc := "(I)V" } : Jvm.MethodName)) ∈ lw_all := lw_g (lw_at lw_m1 138 rfl) rfl
theorem q182 : (Jvm.Cond.methodLink "WireWaysLaw" (25 : Nat) ({ cls := "WireWaysModel", name := "plug", desc := "(IIII)Z" } : Jvm.MethodName)) ∈ lw_all := lw_g (lw_at lw_m1 164 rfl) rfl
theorem q201 : (Jvm.Cond.methodLink "WireWaysLaw" (30 : Nat) ({ cls := "WireWaysModel", name := "draw", desc := "(II)Z" } : Jvm.MethodName)) ∈ lw_all := lw_g (lw_at lw_m1 183 rfl) rfl
theorem q205 : (Jvm.Cond.methodLink "WireWaysLaw" (35 : Nat) ({ cls := "WireWaysModel", name := "cost", desc := "(III)I" } : Jvm.MethodName)) ∈ lw_all := lw_g (lw_at lw_m1 187 rfl) rfl
theorem q209 : (Jvm.Cond.methodLink "WireWaysLaw" (40 : Nat) ({ cls := "WireWaysModel", name := "cut", desc := "(I)Z" } : Jvm.MethodName)) ∈ lw_all := lw_g (lw_at lw_m1 191 rfl) rfl
theorem q213 : (Jvm.Cond.methodLink "WireWaysLaw" (44 : Nat) ({ cls := "WireWaysModel", name := "mend", desc := "(I)Z" } : Jvm.MethodName)) ∈ lw_all := lw_g (lw_at lw_m1 195 rfl) rfl
theorem q217 : (Jvm.Cond.methodLink "WireWaysLaw" (49 : Nat) ({ cls := "WireWaysModel", name := "far", desc := "(IZI)I" } : Jvm.MethodName)) ∈ lw_all := lw_g (lw_at lw_m1 199 rfl) rfl
theorem q242 : (Jvm.Cond.methodLink "WireWaysLaw" (53 : Nat) ({ cls := "WireWaysModel", name := "port", desc := "(IZI)I" } : Jvm.MethodName)) ∈ lw_all := lw_g (lw_at lw_m1 224 rfl) rfl
theorem q246 : (Jvm.Cond.methodLink "WireWaysLaw" (57 : Nat) ({ cls := "WireWaysModel", name := "next", desc := "(IZI)I" } : Jvm.MethodName)) ∈ lw_all := lw_g (lw_at lw_m1 228 rfl) rfl
theorem q250 : (Jvm.Cond.methodLink "WireWaysLaw" (62 : Nat) ({ cls := "WireWaysModel", name := "walk", desc := "(IZII)I" } : Jvm.MethodName)) ∈ lw_all := lw_g (lw_at lw_m1 232 rfl) rfl
theorem q255 : (Jvm.Cond.methodLink "WireWaysLaw" (67 : Nat) ({ cls := "WireWaysModel", name := "reach", desc := "(I)I" } : Jvm.MethodName)) ∈ lw_all := lw_g (lw_at lw_m1 237 rfl) rfl
theorem q259 : (Jvm.Cond.methodLink "WireWaysLaw" (71 : Nat) ({ cls := "WireWaysModel", name := "count", desc := "(I)I" } : Jvm.MethodName)) ∈ lw_all := lw_g (lw_at lw_m2 1 rfl) rfl
end
section
/-! the law's own entry -/
set_option maxRecDepth 100000
abbrev cL_law : ByteArray := code
theorem dL_law_0 : decode cL_law 0 = .ok (.new 7, 3) := by decide +kernel
theorem dL_law_3 : decode cL_law 3 = .ok (.dup, 1) := by decide +kernel
theorem dL_law_4 : decode cL_law 4 = .ok (.aload_n 0, 1) := by decide +kernel
theorem dL_law_5 : decode cL_law 5 = .ok (.iconst 0, 1) := by decide +kernel
theorem dL_law_6 : decode cL_law 6 = .ok (.invokestatic 9, 3) := by decide +kernel
theorem dL_law_9 : decode cL_law 9 = .ok (.invokespecial 15, 3) := by decide +kernel
theorem dL_law_12 : decode cL_law 12 = .ok (.astore_n 1, 1) := by decide +kernel
theorem dL_law_13 : decode cL_law 13 = .ok (.new 18, 3) := by decide +kernel
theorem dL_law_16 : decode cL_law 16 = .ok (.dup, 1) := by decide +kernel
theorem dL_law_17 : decode cL_law 17 = .ok (.aload_n 0, 1) := by decide +kernel
theorem dL_law_18 : decode cL_law 18 = .ok (.iconst 0, 1) := by decide +kernel
theorem dL_law_19 : decode cL_law 19 = .ok (.invokestatic 9, 3) := by decide +kernel
theorem dL_law_22 : decode cL_law 22 = .ok (.invokespecial 20, 3) := by decide +kernel
theorem dL_law_25 : decode cL_law 25 = .ok (.astore_n 2, 1) := by decide +kernel
theorem dL_law_26 : decode cL_law 26 = .ok (.iconst 1, 1) := by decide +kernel
theorem dL_law_27 : decode cL_law 27 = .ok (.istore_n 3, 1) := by decide +kernel
theorem dL_law_28 : decode cL_law 28 = .ok (.iload_n 3, 1) := by decide +kernel
theorem dL_law_29 : decode cL_law 29 = .ok (.aload_n 0, 1) := by decide +kernel
theorem dL_law_30 : decode cL_law 30 = .ok (.arraylength, 1) := by decide +kernel
theorem dL_law_31 : decode cL_law 31 = .ok (.iconst 5, 1) := by decide +kernel
theorem dL_law_32 : decode cL_law 32 = .ok (.isub, 1) := by decide +kernel
theorem dL_law_33 : decode cL_law 33 = .ok (.if_icmp .gt 540, 3) := by decide +kernel
theorem dL_law_36 : decode cL_law 36 = .ok (.aload_n 0, 1) := by decide +kernel
theorem dL_law_37 : decode cL_law 37 = .ok (.iload_n 3, 1) := by decide +kernel
theorem dL_law_38 : decode cL_law 38 = .ok (.iaload, 1) := by decide +kernel
theorem dL_law_39 : decode cL_law 39 = .ok (.bipush 15, 2) := by decide +kernel
theorem dL_law_41 : decode cL_law 41 = .ok (.iand, 1) := by decide +kernel
theorem dL_law_42 : decode cL_law 42 = .ok (.tableswitch 525 0 10 #[58, 111, 144, 187, 210, 233, 292, 351, 410, 479, 502], 58) := by decide +kernel
theorem dL_law_100 : decode cL_law 100 = .ok (.aload_n 1, 1) := by decide +kernel
theorem dL_law_101 : decode cL_law 101 = .ok (.aload_n 0, 1) := by decide +kernel
theorem dL_law_102 : decode cL_law 102 = .ok (.iload_n 3, 1) := by decide +kernel
theorem dL_law_103 : decode cL_law 103 = .ok (.iconst 1, 1) := by decide +kernel
theorem dL_law_104 : decode cL_law 104 = .ok (.iadd, 1) := by decide +kernel
theorem dL_law_105 : decode cL_law 105 = .ok (.iaload, 1) := by decide +kernel
theorem dL_law_106 : decode cL_law 106 = .ok (.aload_n 0, 1) := by decide +kernel
theorem dL_law_107 : decode cL_law 107 = .ok (.iload_n 3, 1) := by decide +kernel
theorem dL_law_108 : decode cL_law 108 = .ok (.iconst 2, 1) := by decide +kernel
theorem dL_law_109 : decode cL_law 109 = .ok (.iadd, 1) := by decide +kernel
theorem dL_law_110 : decode cL_law 110 = .ok (.iaload, 1) := by decide +kernel
theorem dL_law_111 : decode cL_law 111 = .ok (.aload_n 0, 1) := by decide +kernel
theorem dL_law_112 : decode cL_law 112 = .ok (.iload_n 3, 1) := by decide +kernel
theorem dL_law_113 : decode cL_law 113 = .ok (.iconst 3, 1) := by decide +kernel
theorem dL_law_114 : decode cL_law 114 = .ok (.iadd, 1) := by decide +kernel
theorem dL_law_115 : decode cL_law 115 = .ok (.iaload, 1) := by decide +kernel
theorem dL_law_116 : decode cL_law 116 = .ok (.aload_n 0, 1) := by decide +kernel
theorem dL_law_117 : decode cL_law 117 = .ok (.iload_n 3, 1) := by decide +kernel
theorem dL_law_118 : decode cL_law 118 = .ok (.iconst 4, 1) := by decide +kernel
theorem dL_law_119 : decode cL_law 119 = .ok (.iadd, 1) := by decide +kernel
theorem dL_law_120 : decode cL_law 120 = .ok (.iaload, 1) := by decide +kernel
theorem dL_law_121 : decode cL_law 121 = .ok (.invokevirtual 21, 3) := by decide +kernel
theorem dL_law_124 : decode cL_law 124 = .ok (.aload_n 2, 1) := by decide +kernel
theorem dL_law_125 : decode cL_law 125 = .ok (.aload_n 0, 1) := by decide +kernel
theorem dL_law_126 : decode cL_law 126 = .ok (.iload_n 3, 1) := by decide +kernel
theorem dL_law_127 : decode cL_law 127 = .ok (.iconst 1, 1) := by decide +kernel
theorem dL_law_128 : decode cL_law 128 = .ok (.iadd, 1) := by decide +kernel
theorem dL_law_129 : decode cL_law 129 = .ok (.iaload, 1) := by decide +kernel
theorem dL_law_130 : decode cL_law 130 = .ok (.aload_n 0, 1) := by decide +kernel
theorem dL_law_131 : decode cL_law 131 = .ok (.iload_n 3, 1) := by decide +kernel
theorem dL_law_132 : decode cL_law 132 = .ok (.iconst 2, 1) := by decide +kernel
theorem dL_law_133 : decode cL_law 133 = .ok (.iadd, 1) := by decide +kernel
theorem dL_law_134 : decode cL_law 134 = .ok (.iaload, 1) := by decide +kernel
theorem dL_law_135 : decode cL_law 135 = .ok (.aload_n 0, 1) := by decide +kernel
theorem dL_law_136 : decode cL_law 136 = .ok (.iload_n 3, 1) := by decide +kernel
theorem dL_law_137 : decode cL_law 137 = .ok (.iconst 3, 1) := by decide +kernel
theorem dL_law_138 : decode cL_law 138 = .ok (.iadd, 1) := by decide +kernel
theorem dL_law_139 : decode cL_law 139 = .ok (.iaload, 1) := by decide +kernel
theorem dL_law_140 : decode cL_law 140 = .ok (.aload_n 0, 1) := by decide +kernel
theorem dL_law_141 : decode cL_law 141 = .ok (.iload_n 3, 1) := by decide +kernel
theorem dL_law_142 : decode cL_law 142 = .ok (.iconst 4, 1) := by decide +kernel
theorem dL_law_143 : decode cL_law 143 = .ok (.iadd, 1) := by decide +kernel
theorem dL_law_144 : decode cL_law 144 = .ok (.iaload, 1) := by decide +kernel
theorem dL_law_145 : decode cL_law 145 = .ok (.invokevirtual 25, 3) := by decide +kernel
theorem dL_law_148 : decode cL_law 148 = .ok (.if_icmp .eq 419, 3) := by decide +kernel
theorem dL_law_151 : decode cL_law 151 = .ok (.iconst 0, 1) := by decide +kernel
theorem dL_law_152 : decode cL_law 152 = .ok (.ireturn, 1) := by decide +kernel
theorem dL_law_153 : decode cL_law 153 = .ok (.aload_n 1, 1) := by decide +kernel
theorem dL_law_154 : decode cL_law 154 = .ok (.aload_n 0, 1) := by decide +kernel
theorem dL_law_155 : decode cL_law 155 = .ok (.iload_n 3, 1) := by decide +kernel
theorem dL_law_156 : decode cL_law 156 = .ok (.iconst 1, 1) := by decide +kernel
theorem dL_law_157 : decode cL_law 157 = .ok (.iadd, 1) := by decide +kernel
theorem dL_law_158 : decode cL_law 158 = .ok (.iaload, 1) := by decide +kernel
theorem dL_law_159 : decode cL_law 159 = .ok (.aload_n 0, 1) := by decide +kernel
theorem dL_law_160 : decode cL_law 160 = .ok (.iload_n 3, 1) := by decide +kernel
theorem dL_law_161 : decode cL_law 161 = .ok (.iconst 2, 1) := by decide +kernel
theorem dL_law_162 : decode cL_law 162 = .ok (.iadd, 1) := by decide +kernel
theorem dL_law_163 : decode cL_law 163 = .ok (.iaload, 1) := by decide +kernel
theorem dL_law_164 : decode cL_law 164 = .ok (.invokevirtual 26, 3) := by decide +kernel
theorem dL_law_167 : decode cL_law 167 = .ok (.aload_n 2, 1) := by decide +kernel
theorem dL_law_168 : decode cL_law 168 = .ok (.aload_n 0, 1) := by decide +kernel
theorem dL_law_169 : decode cL_law 169 = .ok (.iload_n 3, 1) := by decide +kernel
theorem dL_law_170 : decode cL_law 170 = .ok (.iconst 1, 1) := by decide +kernel
theorem dL_law_171 : decode cL_law 171 = .ok (.iadd, 1) := by decide +kernel
theorem dL_law_172 : decode cL_law 172 = .ok (.iaload, 1) := by decide +kernel
theorem dL_law_173 : decode cL_law 173 = .ok (.aload_n 0, 1) := by decide +kernel
theorem dL_law_174 : decode cL_law 174 = .ok (.iload_n 3, 1) := by decide +kernel
theorem dL_law_175 : decode cL_law 175 = .ok (.iconst 2, 1) := by decide +kernel
theorem dL_law_176 : decode cL_law 176 = .ok (.iadd, 1) := by decide +kernel
theorem dL_law_177 : decode cL_law 177 = .ok (.iaload, 1) := by decide +kernel
theorem dL_law_178 : decode cL_law 178 = .ok (.invokevirtual 30, 3) := by decide +kernel
theorem dL_law_181 : decode cL_law 181 = .ok (.if_icmp .eq 386, 3) := by decide +kernel
theorem dL_law_184 : decode cL_law 184 = .ok (.iconst 0, 1) := by decide +kernel
theorem dL_law_185 : decode cL_law 185 = .ok (.ireturn, 1) := by decide +kernel
theorem dL_law_186 : decode cL_law 186 = .ok (.aload_n 1, 1) := by decide +kernel
theorem dL_law_187 : decode cL_law 187 = .ok (.aload_n 0, 1) := by decide +kernel
theorem dL_law_188 : decode cL_law 188 = .ok (.iload_n 3, 1) := by decide +kernel
theorem dL_law_189 : decode cL_law 189 = .ok (.iconst 1, 1) := by decide +kernel
theorem dL_law_190 : decode cL_law 190 = .ok (.iadd, 1) := by decide +kernel
theorem dL_law_191 : decode cL_law 191 = .ok (.iaload, 1) := by decide +kernel
theorem dL_law_192 : decode cL_law 192 = .ok (.aload_n 0, 1) := by decide +kernel
theorem dL_law_193 : decode cL_law 193 = .ok (.iload_n 3, 1) := by decide +kernel
theorem dL_law_194 : decode cL_law 194 = .ok (.iconst 2, 1) := by decide +kernel
theorem dL_law_195 : decode cL_law 195 = .ok (.iadd, 1) := by decide +kernel
theorem dL_law_196 : decode cL_law 196 = .ok (.iaload, 1) := by decide +kernel
theorem dL_law_197 : decode cL_law 197 = .ok (.aload_n 0, 1) := by decide +kernel
theorem dL_law_198 : decode cL_law 198 = .ok (.iload_n 3, 1) := by decide +kernel
theorem dL_law_199 : decode cL_law 199 = .ok (.iconst 3, 1) := by decide +kernel
theorem dL_law_200 : decode cL_law 200 = .ok (.iadd, 1) := by decide +kernel
theorem dL_law_201 : decode cL_law 201 = .ok (.iaload, 1) := by decide +kernel
theorem dL_law_202 : decode cL_law 202 = .ok (.invokevirtual 31, 3) := by decide +kernel
theorem dL_law_205 : decode cL_law 205 = .ok (.aload_n 2, 1) := by decide +kernel
theorem dL_law_206 : decode cL_law 206 = .ok (.aload_n 0, 1) := by decide +kernel
theorem dL_law_207 : decode cL_law 207 = .ok (.iload_n 3, 1) := by decide +kernel
theorem dL_law_208 : decode cL_law 208 = .ok (.iconst 1, 1) := by decide +kernel
theorem dL_law_209 : decode cL_law 209 = .ok (.iadd, 1) := by decide +kernel
theorem dL_law_210 : decode cL_law 210 = .ok (.iaload, 1) := by decide +kernel
theorem dL_law_211 : decode cL_law 211 = .ok (.aload_n 0, 1) := by decide +kernel
theorem dL_law_212 : decode cL_law 212 = .ok (.iload_n 3, 1) := by decide +kernel
theorem dL_law_213 : decode cL_law 213 = .ok (.iconst 2, 1) := by decide +kernel
theorem dL_law_214 : decode cL_law 214 = .ok (.iadd, 1) := by decide +kernel
theorem dL_law_215 : decode cL_law 215 = .ok (.iaload, 1) := by decide +kernel
theorem dL_law_216 : decode cL_law 216 = .ok (.aload_n 0, 1) := by decide +kernel
theorem dL_law_217 : decode cL_law 217 = .ok (.iload_n 3, 1) := by decide +kernel
theorem dL_law_218 : decode cL_law 218 = .ok (.iconst 3, 1) := by decide +kernel
theorem dL_law_219 : decode cL_law 219 = .ok (.iadd, 1) := by decide +kernel
theorem dL_law_220 : decode cL_law 220 = .ok (.iaload, 1) := by decide +kernel
theorem dL_law_221 : decode cL_law 221 = .ok (.invokevirtual 35, 3) := by decide +kernel
theorem dL_law_224 : decode cL_law 224 = .ok (.if_icmp .eq 343, 3) := by decide +kernel
theorem dL_law_227 : decode cL_law 227 = .ok (.iconst 0, 1) := by decide +kernel
theorem dL_law_228 : decode cL_law 228 = .ok (.ireturn, 1) := by decide +kernel
theorem dL_law_229 : decode cL_law 229 = .ok (.aload_n 1, 1) := by decide +kernel
theorem dL_law_230 : decode cL_law 230 = .ok (.aload_n 0, 1) := by decide +kernel
theorem dL_law_231 : decode cL_law 231 = .ok (.iload_n 3, 1) := by decide +kernel
theorem dL_law_232 : decode cL_law 232 = .ok (.iconst 1, 1) := by decide +kernel
theorem dL_law_233 : decode cL_law 233 = .ok (.iadd, 1) := by decide +kernel
theorem dL_law_234 : decode cL_law 234 = .ok (.iaload, 1) := by decide +kernel
theorem dL_law_235 : decode cL_law 235 = .ok (.invokevirtual 36, 3) := by decide +kernel
theorem dL_law_238 : decode cL_law 238 = .ok (.aload_n 2, 1) := by decide +kernel
theorem dL_law_239 : decode cL_law 239 = .ok (.aload_n 0, 1) := by decide +kernel
theorem dL_law_240 : decode cL_law 240 = .ok (.iload_n 3, 1) := by decide +kernel
theorem dL_law_241 : decode cL_law 241 = .ok (.iconst 1, 1) := by decide +kernel
theorem dL_law_242 : decode cL_law 242 = .ok (.iadd, 1) := by decide +kernel
theorem dL_law_243 : decode cL_law 243 = .ok (.iaload, 1) := by decide +kernel
theorem dL_law_244 : decode cL_law 244 = .ok (.invokevirtual 40, 3) := by decide +kernel
theorem dL_law_247 : decode cL_law 247 = .ok (.if_icmp .eq 320, 3) := by decide +kernel
theorem dL_law_250 : decode cL_law 250 = .ok (.iconst 0, 1) := by decide +kernel
theorem dL_law_251 : decode cL_law 251 = .ok (.ireturn, 1) := by decide +kernel
theorem dL_law_252 : decode cL_law 252 = .ok (.aload_n 1, 1) := by decide +kernel
theorem dL_law_253 : decode cL_law 253 = .ok (.aload_n 0, 1) := by decide +kernel
theorem dL_law_254 : decode cL_law 254 = .ok (.iload_n 3, 1) := by decide +kernel
theorem dL_law_255 : decode cL_law 255 = .ok (.iconst 1, 1) := by decide +kernel
theorem dL_law_256 : decode cL_law 256 = .ok (.iadd, 1) := by decide +kernel
theorem dL_law_257 : decode cL_law 257 = .ok (.iaload, 1) := by decide +kernel
theorem dL_law_258 : decode cL_law 258 = .ok (.invokevirtual 41, 3) := by decide +kernel
theorem dL_law_261 : decode cL_law 261 = .ok (.aload_n 2, 1) := by decide +kernel
theorem dL_law_262 : decode cL_law 262 = .ok (.aload_n 0, 1) := by decide +kernel
theorem dL_law_263 : decode cL_law 263 = .ok (.iload_n 3, 1) := by decide +kernel
theorem dL_law_264 : decode cL_law 264 = .ok (.iconst 1, 1) := by decide +kernel
theorem dL_law_265 : decode cL_law 265 = .ok (.iadd, 1) := by decide +kernel
theorem dL_law_266 : decode cL_law 266 = .ok (.iaload, 1) := by decide +kernel
theorem dL_law_267 : decode cL_law 267 = .ok (.invokevirtual 44, 3) := by decide +kernel
theorem dL_law_270 : decode cL_law 270 = .ok (.if_icmp .eq 297, 3) := by decide +kernel
theorem dL_law_273 : decode cL_law 273 = .ok (.iconst 0, 1) := by decide +kernel
theorem dL_law_274 : decode cL_law 274 = .ok (.ireturn, 1) := by decide +kernel
theorem dL_law_275 : decode cL_law 275 = .ok (.aload_n 1, 1) := by decide +kernel
theorem dL_law_276 : decode cL_law 276 = .ok (.aload_n 0, 1) := by decide +kernel
theorem dL_law_277 : decode cL_law 277 = .ok (.iload_n 3, 1) := by decide +kernel
theorem dL_law_278 : decode cL_law 278 = .ok (.iconst 1, 1) := by decide +kernel
theorem dL_law_279 : decode cL_law 279 = .ok (.iadd, 1) := by decide +kernel
theorem dL_law_280 : decode cL_law 280 = .ok (.iaload, 1) := by decide +kernel
theorem dL_law_281 : decode cL_law 281 = .ok (.aload_n 0, 1) := by decide +kernel
theorem dL_law_282 : decode cL_law 282 = .ok (.iload_n 3, 1) := by decide +kernel
theorem dL_law_283 : decode cL_law 283 = .ok (.iconst 2, 1) := by decide +kernel
theorem dL_law_284 : decode cL_law 284 = .ok (.iadd, 1) := by decide +kernel
theorem dL_law_285 : decode cL_law 285 = .ok (.iaload, 1) := by decide +kernel
theorem dL_law_286 : decode cL_law 286 = .ok (.ifCond .eq 7, 3) := by decide +kernel
theorem dL_law_289 : decode cL_law 289 = .ok (.iconst 1, 1) := by decide +kernel
theorem dL_law_290 : decode cL_law 290 = .ok (.goto 4, 3) := by decide +kernel
theorem dL_law_293 : decode cL_law 293 = .ok (.iconst 0, 1) := by decide +kernel
theorem dL_law_294 : decode cL_law 294 = .ok (.aload_n 0, 1) := by decide +kernel
theorem dL_law_295 : decode cL_law 295 = .ok (.iload_n 3, 1) := by decide +kernel
theorem dL_law_296 : decode cL_law 296 = .ok (.iconst 3, 1) := by decide +kernel
theorem dL_law_297 : decode cL_law 297 = .ok (.iadd, 1) := by decide +kernel
theorem dL_law_298 : decode cL_law 298 = .ok (.iaload, 1) := by decide +kernel
theorem dL_law_299 : decode cL_law 299 = .ok (.invokevirtual 45, 3) := by decide +kernel
theorem dL_law_302 : decode cL_law 302 = .ok (.aload_n 2, 1) := by decide +kernel
theorem dL_law_303 : decode cL_law 303 = .ok (.aload_n 0, 1) := by decide +kernel
theorem dL_law_304 : decode cL_law 304 = .ok (.iload_n 3, 1) := by decide +kernel
theorem dL_law_305 : decode cL_law 305 = .ok (.iconst 1, 1) := by decide +kernel
theorem dL_law_306 : decode cL_law 306 = .ok (.iadd, 1) := by decide +kernel
theorem dL_law_307 : decode cL_law 307 = .ok (.iaload, 1) := by decide +kernel
theorem dL_law_308 : decode cL_law 308 = .ok (.aload_n 0, 1) := by decide +kernel
theorem dL_law_309 : decode cL_law 309 = .ok (.iload_n 3, 1) := by decide +kernel
theorem dL_law_310 : decode cL_law 310 = .ok (.iconst 2, 1) := by decide +kernel
theorem dL_law_311 : decode cL_law 311 = .ok (.iadd, 1) := by decide +kernel
theorem dL_law_312 : decode cL_law 312 = .ok (.iaload, 1) := by decide +kernel
theorem dL_law_313 : decode cL_law 313 = .ok (.ifCond .eq 7, 3) := by decide +kernel
theorem dL_law_316 : decode cL_law 316 = .ok (.iconst 1, 1) := by decide +kernel
theorem dL_law_317 : decode cL_law 317 = .ok (.goto 4, 3) := by decide +kernel
theorem dL_law_320 : decode cL_law 320 = .ok (.iconst 0, 1) := by decide +kernel
theorem dL_law_321 : decode cL_law 321 = .ok (.aload_n 0, 1) := by decide +kernel
theorem dL_law_322 : decode cL_law 322 = .ok (.iload_n 3, 1) := by decide +kernel
theorem dL_law_323 : decode cL_law 323 = .ok (.iconst 3, 1) := by decide +kernel
theorem dL_law_324 : decode cL_law 324 = .ok (.iadd, 1) := by decide +kernel
theorem dL_law_325 : decode cL_law 325 = .ok (.iaload, 1) := by decide +kernel
theorem dL_law_326 : decode cL_law 326 = .ok (.invokevirtual 49, 3) := by decide +kernel
theorem dL_law_329 : decode cL_law 329 = .ok (.if_icmp .eq 238, 3) := by decide +kernel
theorem dL_law_332 : decode cL_law 332 = .ok (.iconst 0, 1) := by decide +kernel
theorem dL_law_333 : decode cL_law 333 = .ok (.ireturn, 1) := by decide +kernel
theorem dL_law_334 : decode cL_law 334 = .ok (.aload_n 1, 1) := by decide +kernel
theorem dL_law_335 : decode cL_law 335 = .ok (.aload_n 0, 1) := by decide +kernel
theorem dL_law_336 : decode cL_law 336 = .ok (.iload_n 3, 1) := by decide +kernel
theorem dL_law_337 : decode cL_law 337 = .ok (.iconst 1, 1) := by decide +kernel
theorem dL_law_338 : decode cL_law 338 = .ok (.iadd, 1) := by decide +kernel
theorem dL_law_339 : decode cL_law 339 = .ok (.iaload, 1) := by decide +kernel
theorem dL_law_340 : decode cL_law 340 = .ok (.aload_n 0, 1) := by decide +kernel
theorem dL_law_341 : decode cL_law 341 = .ok (.iload_n 3, 1) := by decide +kernel
theorem dL_law_342 : decode cL_law 342 = .ok (.iconst 2, 1) := by decide +kernel
theorem dL_law_343 : decode cL_law 343 = .ok (.iadd, 1) := by decide +kernel
theorem dL_law_344 : decode cL_law 344 = .ok (.iaload, 1) := by decide +kernel
theorem dL_law_345 : decode cL_law 345 = .ok (.ifCond .eq 7, 3) := by decide +kernel
theorem dL_law_348 : decode cL_law 348 = .ok (.iconst 1, 1) := by decide +kernel
theorem dL_law_349 : decode cL_law 349 = .ok (.goto 4, 3) := by decide +kernel
theorem dL_law_352 : decode cL_law 352 = .ok (.iconst 0, 1) := by decide +kernel
theorem dL_law_353 : decode cL_law 353 = .ok (.aload_n 0, 1) := by decide +kernel
theorem dL_law_354 : decode cL_law 354 = .ok (.iload_n 3, 1) := by decide +kernel
theorem dL_law_355 : decode cL_law 355 = .ok (.iconst 3, 1) := by decide +kernel
theorem dL_law_356 : decode cL_law 356 = .ok (.iadd, 1) := by decide +kernel
theorem dL_law_357 : decode cL_law 357 = .ok (.iaload, 1) := by decide +kernel
theorem dL_law_358 : decode cL_law 358 = .ok (.invokevirtual 50, 3) := by decide +kernel
theorem dL_law_361 : decode cL_law 361 = .ok (.aload_n 2, 1) := by decide +kernel
theorem dL_law_362 : decode cL_law 362 = .ok (.aload_n 0, 1) := by decide +kernel
theorem dL_law_363 : decode cL_law 363 = .ok (.iload_n 3, 1) := by decide +kernel
theorem dL_law_364 : decode cL_law 364 = .ok (.iconst 1, 1) := by decide +kernel
theorem dL_law_365 : decode cL_law 365 = .ok (.iadd, 1) := by decide +kernel
theorem dL_law_366 : decode cL_law 366 = .ok (.iaload, 1) := by decide +kernel
theorem dL_law_367 : decode cL_law 367 = .ok (.aload_n 0, 1) := by decide +kernel
theorem dL_law_368 : decode cL_law 368 = .ok (.iload_n 3, 1) := by decide +kernel
theorem dL_law_369 : decode cL_law 369 = .ok (.iconst 2, 1) := by decide +kernel
theorem dL_law_370 : decode cL_law 370 = .ok (.iadd, 1) := by decide +kernel
theorem dL_law_371 : decode cL_law 371 = .ok (.iaload, 1) := by decide +kernel
theorem dL_law_372 : decode cL_law 372 = .ok (.ifCond .eq 7, 3) := by decide +kernel
theorem dL_law_375 : decode cL_law 375 = .ok (.iconst 1, 1) := by decide +kernel
theorem dL_law_376 : decode cL_law 376 = .ok (.goto 4, 3) := by decide +kernel
theorem dL_law_379 : decode cL_law 379 = .ok (.iconst 0, 1) := by decide +kernel
theorem dL_law_380 : decode cL_law 380 = .ok (.aload_n 0, 1) := by decide +kernel
theorem dL_law_381 : decode cL_law 381 = .ok (.iload_n 3, 1) := by decide +kernel
theorem dL_law_382 : decode cL_law 382 = .ok (.iconst 3, 1) := by decide +kernel
theorem dL_law_383 : decode cL_law 383 = .ok (.iadd, 1) := by decide +kernel
theorem dL_law_384 : decode cL_law 384 = .ok (.iaload, 1) := by decide +kernel
theorem dL_law_385 : decode cL_law 385 = .ok (.invokevirtual 53, 3) := by decide +kernel
theorem dL_law_388 : decode cL_law 388 = .ok (.if_icmp .eq 179, 3) := by decide +kernel
theorem dL_law_391 : decode cL_law 391 = .ok (.iconst 0, 1) := by decide +kernel
theorem dL_law_392 : decode cL_law 392 = .ok (.ireturn, 1) := by decide +kernel
theorem dL_law_393 : decode cL_law 393 = .ok (.aload_n 1, 1) := by decide +kernel
theorem dL_law_394 : decode cL_law 394 = .ok (.aload_n 0, 1) := by decide +kernel
theorem dL_law_395 : decode cL_law 395 = .ok (.iload_n 3, 1) := by decide +kernel
theorem dL_law_396 : decode cL_law 396 = .ok (.iconst 1, 1) := by decide +kernel
theorem dL_law_397 : decode cL_law 397 = .ok (.iadd, 1) := by decide +kernel
theorem dL_law_398 : decode cL_law 398 = .ok (.iaload, 1) := by decide +kernel
theorem dL_law_399 : decode cL_law 399 = .ok (.aload_n 0, 1) := by decide +kernel
theorem dL_law_400 : decode cL_law 400 = .ok (.iload_n 3, 1) := by decide +kernel
theorem dL_law_401 : decode cL_law 401 = .ok (.iconst 2, 1) := by decide +kernel
theorem dL_law_402 : decode cL_law 402 = .ok (.iadd, 1) := by decide +kernel
theorem dL_law_403 : decode cL_law 403 = .ok (.iaload, 1) := by decide +kernel
theorem dL_law_404 : decode cL_law 404 = .ok (.ifCond .eq 7, 3) := by decide +kernel
theorem dL_law_407 : decode cL_law 407 = .ok (.iconst 1, 1) := by decide +kernel
theorem dL_law_408 : decode cL_law 408 = .ok (.goto 4, 3) := by decide +kernel
theorem dL_law_411 : decode cL_law 411 = .ok (.iconst 0, 1) := by decide +kernel
theorem dL_law_412 : decode cL_law 412 = .ok (.aload_n 0, 1) := by decide +kernel
theorem dL_law_413 : decode cL_law 413 = .ok (.iload_n 3, 1) := by decide +kernel
theorem dL_law_414 : decode cL_law 414 = .ok (.iconst 3, 1) := by decide +kernel
theorem dL_law_415 : decode cL_law 415 = .ok (.iadd, 1) := by decide +kernel
theorem dL_law_416 : decode cL_law 416 = .ok (.iaload, 1) := by decide +kernel
theorem dL_law_417 : decode cL_law 417 = .ok (.invokevirtual 54, 3) := by decide +kernel
theorem dL_law_420 : decode cL_law 420 = .ok (.aload_n 2, 1) := by decide +kernel
theorem dL_law_421 : decode cL_law 421 = .ok (.aload_n 0, 1) := by decide +kernel
theorem dL_law_422 : decode cL_law 422 = .ok (.iload_n 3, 1) := by decide +kernel
theorem dL_law_423 : decode cL_law 423 = .ok (.iconst 1, 1) := by decide +kernel
theorem dL_law_424 : decode cL_law 424 = .ok (.iadd, 1) := by decide +kernel
theorem dL_law_425 : decode cL_law 425 = .ok (.iaload, 1) := by decide +kernel
theorem dL_law_426 : decode cL_law 426 = .ok (.aload_n 0, 1) := by decide +kernel
theorem dL_law_427 : decode cL_law 427 = .ok (.iload_n 3, 1) := by decide +kernel
theorem dL_law_428 : decode cL_law 428 = .ok (.iconst 2, 1) := by decide +kernel
theorem dL_law_429 : decode cL_law 429 = .ok (.iadd, 1) := by decide +kernel
theorem dL_law_430 : decode cL_law 430 = .ok (.iaload, 1) := by decide +kernel
theorem dL_law_431 : decode cL_law 431 = .ok (.ifCond .eq 7, 3) := by decide +kernel
theorem dL_law_434 : decode cL_law 434 = .ok (.iconst 1, 1) := by decide +kernel
theorem dL_law_435 : decode cL_law 435 = .ok (.goto 4, 3) := by decide +kernel
theorem dL_law_438 : decode cL_law 438 = .ok (.iconst 0, 1) := by decide +kernel
theorem dL_law_439 : decode cL_law 439 = .ok (.aload_n 0, 1) := by decide +kernel
theorem dL_law_440 : decode cL_law 440 = .ok (.iload_n 3, 1) := by decide +kernel
theorem dL_law_441 : decode cL_law 441 = .ok (.iconst 3, 1) := by decide +kernel
theorem dL_law_442 : decode cL_law 442 = .ok (.iadd, 1) := by decide +kernel
theorem dL_law_443 : decode cL_law 443 = .ok (.iaload, 1) := by decide +kernel
theorem dL_law_444 : decode cL_law 444 = .ok (.invokevirtual 57, 3) := by decide +kernel
theorem dL_law_447 : decode cL_law 447 = .ok (.if_icmp .eq 120, 3) := by decide +kernel
theorem dL_law_450 : decode cL_law 450 = .ok (.iconst 0, 1) := by decide +kernel
theorem dL_law_451 : decode cL_law 451 = .ok (.ireturn, 1) := by decide +kernel
theorem dL_law_452 : decode cL_law 452 = .ok (.aload_n 1, 1) := by decide +kernel
theorem dL_law_453 : decode cL_law 453 = .ok (.aload_n 0, 1) := by decide +kernel
theorem dL_law_454 : decode cL_law 454 = .ok (.iload_n 3, 1) := by decide +kernel
theorem dL_law_455 : decode cL_law 455 = .ok (.iconst 1, 1) := by decide +kernel
theorem dL_law_456 : decode cL_law 456 = .ok (.iadd, 1) := by decide +kernel
theorem dL_law_457 : decode cL_law 457 = .ok (.iaload, 1) := by decide +kernel
theorem dL_law_458 : decode cL_law 458 = .ok (.aload_n 0, 1) := by decide +kernel
theorem dL_law_459 : decode cL_law 459 = .ok (.iload_n 3, 1) := by decide +kernel
theorem dL_law_460 : decode cL_law 460 = .ok (.iconst 2, 1) := by decide +kernel
theorem dL_law_461 : decode cL_law 461 = .ok (.iadd, 1) := by decide +kernel
theorem dL_law_462 : decode cL_law 462 = .ok (.iaload, 1) := by decide +kernel
theorem dL_law_463 : decode cL_law 463 = .ok (.ifCond .eq 7, 3) := by decide +kernel
theorem dL_law_466 : decode cL_law 466 = .ok (.iconst 1, 1) := by decide +kernel
theorem dL_law_467 : decode cL_law 467 = .ok (.goto 4, 3) := by decide +kernel
theorem dL_law_470 : decode cL_law 470 = .ok (.iconst 0, 1) := by decide +kernel
theorem dL_law_471 : decode cL_law 471 = .ok (.aload_n 0, 1) := by decide +kernel
theorem dL_law_472 : decode cL_law 472 = .ok (.iload_n 3, 1) := by decide +kernel
theorem dL_law_473 : decode cL_law 473 = .ok (.iconst 3, 1) := by decide +kernel
theorem dL_law_474 : decode cL_law 474 = .ok (.iadd, 1) := by decide +kernel
theorem dL_law_475 : decode cL_law 475 = .ok (.iaload, 1) := by decide +kernel
theorem dL_law_476 : decode cL_law 476 = .ok (.aload_n 0, 1) := by decide +kernel
theorem dL_law_477 : decode cL_law 477 = .ok (.iload_n 3, 1) := by decide +kernel
theorem dL_law_478 : decode cL_law 478 = .ok (.iconst 4, 1) := by decide +kernel
theorem dL_law_479 : decode cL_law 479 = .ok (.iadd, 1) := by decide +kernel
theorem dL_law_480 : decode cL_law 480 = .ok (.iaload, 1) := by decide +kernel
theorem dL_law_481 : decode cL_law 481 = .ok (.invokevirtual 58, 3) := by decide +kernel
theorem dL_law_484 : decode cL_law 484 = .ok (.aload_n 2, 1) := by decide +kernel
theorem dL_law_485 : decode cL_law 485 = .ok (.aload_n 0, 1) := by decide +kernel
theorem dL_law_486 : decode cL_law 486 = .ok (.iload_n 3, 1) := by decide +kernel
theorem dL_law_487 : decode cL_law 487 = .ok (.iconst 1, 1) := by decide +kernel
theorem dL_law_488 : decode cL_law 488 = .ok (.iadd, 1) := by decide +kernel
theorem dL_law_489 : decode cL_law 489 = .ok (.iaload, 1) := by decide +kernel
theorem dL_law_490 : decode cL_law 490 = .ok (.aload_n 0, 1) := by decide +kernel
theorem dL_law_491 : decode cL_law 491 = .ok (.iload_n 3, 1) := by decide +kernel
theorem dL_law_492 : decode cL_law 492 = .ok (.iconst 2, 1) := by decide +kernel
theorem dL_law_493 : decode cL_law 493 = .ok (.iadd, 1) := by decide +kernel
theorem dL_law_494 : decode cL_law 494 = .ok (.iaload, 1) := by decide +kernel
theorem dL_law_495 : decode cL_law 495 = .ok (.ifCond .eq 7, 3) := by decide +kernel
theorem dL_law_498 : decode cL_law 498 = .ok (.iconst 1, 1) := by decide +kernel
theorem dL_law_499 : decode cL_law 499 = .ok (.goto 4, 3) := by decide +kernel
theorem dL_law_502 : decode cL_law 502 = .ok (.iconst 0, 1) := by decide +kernel
theorem dL_law_503 : decode cL_law 503 = .ok (.aload_n 0, 1) := by decide +kernel
theorem dL_law_504 : decode cL_law 504 = .ok (.iload_n 3, 1) := by decide +kernel
theorem dL_law_505 : decode cL_law 505 = .ok (.iconst 3, 1) := by decide +kernel
theorem dL_law_506 : decode cL_law 506 = .ok (.iadd, 1) := by decide +kernel
theorem dL_law_507 : decode cL_law 507 = .ok (.iaload, 1) := by decide +kernel
theorem dL_law_508 : decode cL_law 508 = .ok (.aload_n 0, 1) := by decide +kernel
theorem dL_law_509 : decode cL_law 509 = .ok (.iload_n 3, 1) := by decide +kernel
theorem dL_law_510 : decode cL_law 510 = .ok (.iconst 4, 1) := by decide +kernel
theorem dL_law_511 : decode cL_law 511 = .ok (.iadd, 1) := by decide +kernel
theorem dL_law_512 : decode cL_law 512 = .ok (.iaload, 1) := by decide +kernel
theorem dL_law_513 : decode cL_law 513 = .ok (.invokevirtual 62, 3) := by decide +kernel
theorem dL_law_516 : decode cL_law 516 = .ok (.if_icmp .eq 51, 3) := by decide +kernel
theorem dL_law_519 : decode cL_law 519 = .ok (.iconst 0, 1) := by decide +kernel
theorem dL_law_520 : decode cL_law 520 = .ok (.ireturn, 1) := by decide +kernel
theorem dL_law_521 : decode cL_law 521 = .ok (.aload_n 1, 1) := by decide +kernel
theorem dL_law_522 : decode cL_law 522 = .ok (.aload_n 0, 1) := by decide +kernel
theorem dL_law_523 : decode cL_law 523 = .ok (.iload_n 3, 1) := by decide +kernel
theorem dL_law_524 : decode cL_law 524 = .ok (.iconst 1, 1) := by decide +kernel
theorem dL_law_525 : decode cL_law 525 = .ok (.iadd, 1) := by decide +kernel
theorem dL_law_526 : decode cL_law 526 = .ok (.iaload, 1) := by decide +kernel
theorem dL_law_527 : decode cL_law 527 = .ok (.invokevirtual 63, 3) := by decide +kernel
theorem dL_law_530 : decode cL_law 530 = .ok (.aload_n 2, 1) := by decide +kernel
theorem dL_law_531 : decode cL_law 531 = .ok (.aload_n 0, 1) := by decide +kernel
theorem dL_law_532 : decode cL_law 532 = .ok (.iload_n 3, 1) := by decide +kernel
theorem dL_law_533 : decode cL_law 533 = .ok (.iconst 1, 1) := by decide +kernel
theorem dL_law_534 : decode cL_law 534 = .ok (.iadd, 1) := by decide +kernel
theorem dL_law_535 : decode cL_law 535 = .ok (.iaload, 1) := by decide +kernel
theorem dL_law_536 : decode cL_law 536 = .ok (.invokevirtual 67, 3) := by decide +kernel
theorem dL_law_539 : decode cL_law 539 = .ok (.if_icmp .eq 28, 3) := by decide +kernel
theorem dL_law_542 : decode cL_law 542 = .ok (.iconst 0, 1) := by decide +kernel
theorem dL_law_543 : decode cL_law 543 = .ok (.ireturn, 1) := by decide +kernel
theorem dL_law_544 : decode cL_law 544 = .ok (.aload_n 1, 1) := by decide +kernel
theorem dL_law_545 : decode cL_law 545 = .ok (.aload_n 0, 1) := by decide +kernel
theorem dL_law_546 : decode cL_law 546 = .ok (.iload_n 3, 1) := by decide +kernel
theorem dL_law_547 : decode cL_law 547 = .ok (.iconst 1, 1) := by decide +kernel
theorem dL_law_548 : decode cL_law 548 = .ok (.iadd, 1) := by decide +kernel
theorem dL_law_549 : decode cL_law 549 = .ok (.iaload, 1) := by decide +kernel
theorem dL_law_550 : decode cL_law 550 = .ok (.invokevirtual 68, 3) := by decide +kernel
theorem dL_law_553 : decode cL_law 553 = .ok (.aload_n 2, 1) := by decide +kernel
theorem dL_law_554 : decode cL_law 554 = .ok (.aload_n 0, 1) := by decide +kernel
theorem dL_law_555 : decode cL_law 555 = .ok (.iload_n 3, 1) := by decide +kernel
theorem dL_law_556 : decode cL_law 556 = .ok (.iconst 1, 1) := by decide +kernel
theorem dL_law_557 : decode cL_law 557 = .ok (.iadd, 1) := by decide +kernel
theorem dL_law_558 : decode cL_law 558 = .ok (.iaload, 1) := by decide +kernel
theorem dL_law_559 : decode cL_law 559 = .ok (.invokevirtual 71, 3) := by decide +kernel
theorem dL_law_562 : decode cL_law 562 = .ok (.if_icmp .eq 5, 3) := by decide +kernel
theorem dL_law_565 : decode cL_law 565 = .ok (.iconst 0, 1) := by decide +kernel
theorem dL_law_566 : decode cL_law 566 = .ok (.ireturn, 1) := by decide +kernel
theorem dL_law_567 : decode cL_law 567 = .ok (.iinc 3 5, 3) := by decide +kernel
theorem dL_law_570 : decode cL_law 570 = .ok (.goto (-542), 3) := by decide +kernel
theorem dL_law_573 : decode cL_law 573 = .ok (.iconst 1, 1) := by decide +kernel
theorem dL_law_574 : decode cL_law 574 = .ok (.ireturn, 1) := by decide +kernel
end
section
/-! rows of my own over the kit's: numbers as nI, the two objects' worlds, calls -/
section
variable {p : Program} {l : Launch} {e : Env} {R : Room} {s : State} {m : MethodId} {args : Array Value} {below : List Frame} {meth : Method} {c : Code} {H : Heap} {locs : List Loc} {cells slots : Nat} {Q : State → Prop}
variable {cc : ByteArray} {pc : Nat} {ls : Array Slot} {rest : List Value} {D : va_G} {cl : List vw_C} {A : Nat → Prop} {a : Nat} {tys : List (ClassId × FieldType)} {ws : va_W} {H0 : Heap}
theorem ww_top {x y : Int32} (h : x = y) (k : W p l e R s m args below meth c H locs cells slots Q (F0 m pc ls (.int y :: rest))) : W p l e R s m args below meth c H locs cells slots Q (F0 m pc ls (.int x :: rest)) := h ▸ k
theorem ww_iadd (hx : p.tables.exec = Jvm.exec) (hb : c.code = cc) {x y : Nat} (hdg : decode cc pc = .ok (.iadd, 1)) (k : W p l e R s m args below meth c H locs cells slots Q (F0 m (pc + 1) ls (.int (nI (x + y)) :: rest))) : W p l e R s m args below meth c H locs cells slots Q (F0 m pc ls (.int (nI y) :: .int (nI x) :: rest)) := lv_iadd hx hb hdg (ww_top (nI_add x y) k)
theorem ww_imul (hx : p.tables.exec = Jvm.exec) (hb : c.code = cc) {x y : Nat} (hdg : decode cc pc = .ok (.imul, 1)) (k : W p l e R s m args below meth c H locs cells slots Q (F0 m (pc + 1) ls (.int (nI (x * y)) :: rest))) : W p l e R s m args below meth c H locs cells slots Q (F0 m pc ls (.int (nI y) :: .int (nI x) :: rest)) := lv_imul hx hb hdg (ww_top (pk_mul x y) k)
theorem ww_imulc (hx : p.tables.exec = Jvm.exec) (hb : c.code = cc) {x y : Nat} (hdg : decode cc pc = .ok (.imul, 1)) (k : W p l e R s m args below meth c H locs cells slots Q (F0 m (pc + 1) ls (.int (nI (y * x)) :: rest))) : W p l e R s m args below meth c H locs cells slots Q (F0 m pc ls (.int (nI y) :: .int (nI x) :: rest)) := lv_imul hx hb hdg (ww_top (by rw [pk_mul, Nat.mul_comm]) k)
theorem ww_if_ltN (hx : p.tables.exec = Jvm.exec) (hb : c.code = cc) {x : Nat} {off : Int} (hdg : decode cc pc = .ok (.ifCond .lt off, 3)) (kf : W p l e R s m args below meth c H locs cells slots Q (F0 m (pc + 3) ls rest)) {tgt : Nat} (ht : (pc : Int) + off = (tgt : Int) := by decide) (h1 : x < 2 ^ 31 := by omega) : W p l e R s m args below meth c H locs cells slots Q (F0 m pc ls (.int (nI x) :: rest)) := lv_if_lt (tgt := tgt) hx hb hdg ht (fun q => absurd q (nI_pos h1)) (fun _ => kf)
theorem ww_isub (hx : p.tables.exec = Jvm.exec) (hb : c.code = cc) {x y : Nat} (hdg : decode cc pc = .ok (.isub, 1)) (k : W p l e R s m args below meth c H locs cells slots Q (F0 m (pc + 1) ls (.int (nI (x - y)) :: rest))) (h : y ≤ x := by omega) : W p l e R s m args below meth c H locs cells slots Q (F0 m pc ls (.int (nI y) :: .int (nI x) :: rest)) := lv_isub hx hb hdg (ww_top (pk_sub h) k)
theorem ww_idiv (hx : p.tables.exec = Jvm.exec) (hb : c.code = cc) {x y : Nat} (hdg : decode cc pc = .ok (.idiv, 1)) (k : W p l e R s m args below meth c H locs cells slots Q (F0 m (pc + 1) ls (.int (nI (x / y)) :: rest))) (h1 : 0 < y := by omega) (h2 : x < 2 ^ 31 := by omega) (h3 : y < 2 ^ 31 := by omega) : W p l e R s m args below meth c H locs cells slots Q (F0 m pc ls (.int (nI y) :: .int (nI x) :: rest)) := lv_idiv hx hb hdg (nI_ne0 h1 h3) (ww_top (pk_div h2 h1 h3) k)
theorem ww_irem (hx : p.tables.exec = Jvm.exec) (hb : c.code = cc) {x y : Nat} (hdg : decode cc pc = .ok (.irem, 1)) (k : W p l e R s m args below meth c H locs cells slots Q (F0 m (pc + 1) ls (.int (nI (x % y)) :: rest))) (h1 : 0 < y := by omega) (h2 : x < 2 ^ 31 := by omega) (h3 : y < 2 ^ 31 := by omega) : W p l e R s m args below meth c H locs cells slots Q (F0 m pc ls (.int (nI y) :: .int (nI x) :: rest)) := lv_irem hx hb hdg (nI_ne0 h1 h3) (ww_top (pk_rem h2 h1 h3) k)
theorem ww_rng {x : Int32} {n : Nat} (hn : n < 2 ^ 31) (h1 : ¬ x < 0) (h2 : ¬ nI n ≤ x) : ∃ j : Nat, j < n ∧ x = nI j := by
  rcases pk_ix x hn with q | q | q
  · exact absurd q h1
  · exact absurd q h2
  · exact q
theorem ww_inc (i : Nat) : nI i + Int32.ofInt 1 = nI (i + 1) := nI_1 i
theorem ww_icmp_ge (hx : p.tables.exec = Jvm.exec) (hb : c.code = cc) {x y : Nat} {off : Int} {tgt : Nat} (hdg : decode cc pc = .ok (.if_icmp .ge off, 3)) (ht : (pc : Int) + off = (tgt : Int)) (kt : y ≤ x → W p l e R s m args below meth c H locs cells slots Q (F0 m tgt ls rest)) (kf : x < y → W p l e R s m args below meth c H locs cells slots Q (F0 m (pc + 3) ls rest)) (h1 : x < 2 ^ 31 := by omega) (h2 : y < 2 ^ 31 := by omega) : W p l e R s m args below meth c H locs cells slots Q (F0 m pc ls (.int (nI y) :: .int (nI x) :: rest)) := lv_icmp_ge hx hb hdg ht (fun q => kt ((nI_leI h2 h1).mp q)) (fun q => kf (Nat.lt_of_not_le fun z => q ((nI_leI h2 h1).mpr z)))
theorem ww_icmp_lt (hx : p.tables.exec = Jvm.exec) (hb : c.code = cc) {x y : Nat} {off : Int} {tgt : Nat} (hdg : decode cc pc = .ok (.if_icmp .lt off, 3)) (ht : (pc : Int) + off = (tgt : Int)) (kt : x < y → W p l e R s m args below meth c H locs cells slots Q (F0 m tgt ls rest)) (kf : y ≤ x → W p l e R s m args below meth c H locs cells slots Q (F0 m (pc + 3) ls rest)) (h1 : x < 2 ^ 31 := by omega) (h2 : y < 2 ^ 31 := by omega) : W p l e R s m args below meth c H locs cells slots Q (F0 m pc ls (.int (nI y) :: .int (nI x) :: rest)) := lv_icmp_lt hx hb hdg ht (fun q => kt ((nI_ltI h1 h2).mp q)) (fun q => kf (Nat.le_of_not_lt fun z => q ((nI_ltI h1 h2).mpr z)))
theorem ww_icmp_gt (hx : p.tables.exec = Jvm.exec) (hb : c.code = cc) {x y : Nat} {off : Int} {tgt : Nat} (hdg : decode cc pc = .ok (.if_icmp .gt off, 3)) (ht : (pc : Int) + off = (tgt : Int)) (kt : y < x → W p l e R s m args below meth c H locs cells slots Q (F0 m tgt ls rest)) (kf : x ≤ y → W p l e R s m args below meth c H locs cells slots Q (F0 m (pc + 3) ls rest)) (h1 : x < 2 ^ 31 := by omega) (h2 : y < 2 ^ 31 := by omega) : W p l e R s m args below meth c H locs cells slots Q (F0 m pc ls (.int (nI y) :: .int (nI x) :: rest)) := lv_icmp_gt hx hb hdg ht (fun q => kt ((nI_ltI h2 h1).mp q)) (fun q => kf (Nat.le_of_not_lt fun z => q ((nI_ltI h2 h1).mpr z)))
theorem ww_icmp_le (hx : p.tables.exec = Jvm.exec) (hb : c.code = cc) {x y : Nat} {off : Int} {tgt : Nat} (hdg : decode cc pc = .ok (.if_icmp .le off, 3)) (ht : (pc : Int) + off = (tgt : Int)) (kt : x ≤ y → W p l e R s m args below meth c H locs cells slots Q (F0 m tgt ls rest)) (kf : y < x → W p l e R s m args below meth c H locs cells slots Q (F0 m (pc + 3) ls rest)) (h1 : x < 2 ^ 31 := by omega) (h2 : y < 2 ^ 31 := by omega) : W p l e R s m args below meth c H locs cells slots Q (F0 m pc ls (.int (nI y) :: .int (nI x) :: rest)) := lv_icmp_le hx hb hdg ht (fun q => kt ((nI_leI h1 h2).mp q)) (fun q => kf (Nat.lt_of_not_le fun z => q ((nI_leI h1 h2).mpr z)))
theorem ww_icmp_eq (hx : p.tables.exec = Jvm.exec) (hb : c.code = cc) {x y : Nat} {off : Int} {tgt : Nat} (hdg : decode cc pc = .ok (.if_icmp .eq off, 3)) (ht : (pc : Int) + off = (tgt : Int)) (kt : x = y → W p l e R s m args below meth c H locs cells slots Q (F0 m tgt ls rest)) (kf : ¬ x = y → W p l e R s m args below meth c H locs cells slots Q (F0 m (pc + 3) ls rest)) (h1 : x < 2 ^ 31 := by omega) (h2 : y < 2 ^ 31 := by omega) : W p l e R s m args below meth c H locs cells slots Q (F0 m pc ls (.int (nI y) :: .int (nI x) :: rest)) := lv_icmp_eq hx hb hdg ht (fun q => kt ((nI_eq h1 h2).mp q)) (fun q => kf (fun z => q ((nI_eq h1 h2).mpr z)))
theorem ww_icmp_ne (hx : p.tables.exec = Jvm.exec) (hb : c.code = cc) {x y : Nat} {off : Int} {tgt : Nat} (hdg : decode cc pc = .ok (.if_icmp .ne off, 3)) (ht : (pc : Int) + off = (tgt : Int)) (kt : ¬ x = y → W p l e R s m args below meth c H locs cells slots Q (F0 m tgt ls rest)) (kf : x = y → W p l e R s m args below meth c H locs cells slots Q (F0 m (pc + 3) ls rest)) (h1 : x < 2 ^ 31 := by omega) (h2 : y < 2 ^ 31 := by omega) : W p l e R s m args below meth c H locs cells slots Q (F0 m pc ls (.int (nI y) :: .int (nI x) :: rest)) := lv_icmp_ne hx hb hdg ht (fun q => kt (fun z => q ((nI_eq h1 h2).mpr z))) (fun q => kf ((nI_eq h1 h2).mp q))
/-- a truth as an int -/
def ww_b2 (P : Prop) [Decidable P] : Int32 := if P then nI 1 else nI 0
theorem ww_b2_t {P : Prop} [Decidable P] (h : P) : ww_b2 P = nI 1 := if_pos h
theorem ww_b2_f {P : Prop} [Decidable P] (h : ¬ P) : ww_b2 P = nI 0 := if_neg h
theorem ww_b2_0 {P : Prop} [Decidable P] : ww_b2 P = 0 ↔ ¬ P := by
  unfold ww_b2
  by_cases h : P
  · simp only [if_pos h]
    exact ⟨fun q => absurd q (by decide), fun q => absurd h q⟩
  · simp only [if_neg h]
    exact ⟨fun _ => h, fun _ => by decide⟩
theorem ww_b2_n {P : Prop} [Decidable P] : narrow .boolean (.int (ww_b2 P)) = .int (ww_b2 P) := by
  unfold ww_b2
  by_cases h : P
  · simp only [if_pos h]; rfl
  · simp only [if_neg h]; rfl
theorem ww_if_eqB (hx : p.tables.exec = Jvm.exec) (hb : c.code = cc) {P : Prop} [Decidable P] {off : Int} {tgt : Nat} (hdg : decode cc pc = .ok (.ifCond .eq off, 3)) (ht : (pc : Int) + off = (tgt : Int)) (kt : ¬ P → W p l e R s m args below meth c H locs cells slots Q (F0 m tgt ls rest)) (kf : P → W p l e R s m args below meth c H locs cells slots Q (F0 m (pc + 3) ls rest)) : W p l e R s m args below meth c H locs cells slots Q (F0 m pc ls (.int (ww_b2 P) :: rest)) := lv_if_eq hx hb hdg ht (fun q => kt (ww_b2_0.mp q)) (fun q => kf (Decidable.not_not.mp fun z => q (ww_b2_0.mpr z)))
theorem ww_if_neB (hx : p.tables.exec = Jvm.exec) (hb : c.code = cc) {P : Prop} [Decidable P] {off : Int} {tgt : Nat} (hdg : decode cc pc = .ok (.ifCond .ne off, 3)) (ht : (pc : Int) + off = (tgt : Int)) (kt : P → W p l e R s m args below meth c H locs cells slots Q (F0 m tgt ls rest)) (kf : ¬ P → W p l e R s m args below meth c H locs cells slots Q (F0 m (pc + 3) ls rest)) : W p l e R s m args below meth c H locs cells slots Q (F0 m pc ls (.int (ww_b2 P) :: rest)) := lv_if_ne hx hb hdg ht (fun q => kt (Decidable.not_not.mp fun z => q (ww_b2_0.mpr z))) (fun q => kf (ww_b2_0.mp q))
theorem ww_n0 {x : Nat} (h : x < 2 ^ 31) : nI x = 0 ↔ x = 0 := by
  rw [show (0 : Int32) = nI 0 from nI_0.symm]
  exact nI_eq h (by decide)
theorem ww_if_eq (hx : p.tables.exec = Jvm.exec) (hb : c.code = cc) {x : Nat} {off : Int} {tgt : Nat} (hdg : decode cc pc = .ok (.ifCond .eq off, 3)) (ht : (pc : Int) + off = (tgt : Int)) (kt : x = 0 → W p l e R s m args below meth c H locs cells slots Q (F0 m tgt ls rest)) (kf : ¬ x = 0 → W p l e R s m args below meth c H locs cells slots Q (F0 m (pc + 3) ls rest)) (h1 : x < 2 ^ 31 := by omega) : W p l e R s m args below meth c H locs cells slots Q (F0 m pc ls (.int (nI x) :: rest)) := lv_if_eq hx hb hdg ht (fun q => kt ((ww_n0 h1).mp q)) (fun q => kf (fun z => q ((ww_n0 h1).mpr z)))
theorem ww_if_ne (hx : p.tables.exec = Jvm.exec) (hb : c.code = cc) {x : Nat} {off : Int} {tgt : Nat} (hdg : decode cc pc = .ok (.ifCond .ne off, 3)) (ht : (pc : Int) + off = (tgt : Int)) (kt : ¬ x = 0 → W p l e R s m args below meth c H locs cells slots Q (F0 m tgt ls rest)) (kf : x = 0 → W p l e R s m args below meth c H locs cells slots Q (F0 m (pc + 3) ls rest)) (h1 : x < 2 ^ 31 := by omega) : W p l e R s m args below meth c H locs cells slots Q (F0 m pc ls (.int (nI x) :: rest)) := lv_if_ne hx hb hdg ht (fun q => kt (fun z => q ((ww_n0 h1).mpr z))) (fun q => kf ((ww_n0 h1).mp q))
theorem ww_iald (hx : p.tables.exec = Jvm.exec) (hb : c.code = cc) (hK : va_K D cl tys s) (hP : va_P D cl ws H) (q0 t0 : Nat) {cA : ClassId} {n : Nat} {f : Nat → Int32} (ha : ws[q0]? = some (a, .inl (cA, n, .inl f))) (ht : tys[t0]? = some (cA, .int)) {k : Nat} (hdg : decode cc pc = .ok (.iaload, 1)) (kk : W p l e R s m args below meth c H locs cells slots Q (F0 m (pc + 1) ls (.int (f k) :: rest))) (h1 : k < n := by omega) (h2 : n < 2 ^ 31 := by decide) : W p l e R s m args below meth c H locs cells slots Q (F0 m pc ls (.int (nI k) :: .ref a :: rest)) := by
  refine va_iald hx hb hK hP q0 t0 ha ht (vp_in_nI h1 h2) hdg ?_
  rw [nI_clamp (by omega)]
  exact kk
theorem ww_zald (hx : p.tables.exec = Jvm.exec) (hb : c.code = cc) (hK : va_K D cl tys s) (hP : va_P D cl ws H) (q0 t0 : Nat) {cA : ClassId} {n : Nat} {f : Nat → Int32} (ha : ws[q0]? = some (a, .inl (cA, n, .inl f))) (ht : tys[t0]? = some (cA, .boolean)) {k : Nat} (hdg : decode cc pc = .ok (.baload, 1)) (kk : W p l e R s m args below meth c H locs cells slots Q (F0 m (pc + 1) ls (.int (f k) :: rest))) (h1 : k < n := by omega) (h2 : n < 2 ^ 31 := by decide) : W p l e R s m args below meth c H locs cells slots Q (F0 m pc ls (.int (nI k) :: .ref a :: rest)) := by
  refine va_zald hx hb hK hP q0 t0 ha ht (vp_in_nI h1 h2) hdg ?_
  rw [nI_clamp (by omega)]
  exact kk
theorem ww_iast (hx : p.tables.exec = Jvm.exec) (hb : c.code = cc) (hK : va_K D cl tys s) (hP : va_P D cl ws H) (hD : va_D A ws) (hS : va_S A H0 H locs) (q0 t0 : Nat) {cA : ClassId} {n : Nat} {f : Nat → Int32} (ha : ws[q0]? = some (a, .inl (cA, n, .inl f))) (ht : tys[t0]? = some (cA, .int)) {k : Nat} {x : Int32} (hdg : decode cc pc = .ok (.iastore, 1)) (kk : ∀ (H1 : Heap) (locs1 : List Loc), va_P D cl (ws.set q0 (a, .inl (cA, n, .inl (upd f k x)))) H1 → va_D A (ws.set q0 (a, .inl (cA, n, .inl (upd f k x)))) → va_S A H0 H1 locs1 → W p l e R s m args below meth c H1 locs1 cells slots Q (F0 m (pc + 1) ls rest)) (h1 : k < n := by omega) (h2 : n < 2 ^ 31 := by decide) : W p l e R s m args below meth c H locs cells slots Q (F0 m pc ls (.int x :: .int (nI k) :: .ref a :: rest)) := by
  refine va_iast hx hb hK hP hD hS q0 t0 ha ht (vp_in_nI h1 h2) hdg ?_
  rw [nI_clamp (by omega)]
  exact kk
theorem ww_zast (hx : p.tables.exec = Jvm.exec) (hb : c.code = cc) (hK : va_K D cl tys s) (hP : va_P D cl ws H) (hD : va_D A ws) (hS : va_S A H0 H locs) (q0 t0 : Nat) {cA : ClassId} {n : Nat} {f : Nat → Int32} (ha : ws[q0]? = some (a, .inl (cA, n, .inl f))) (ht : tys[t0]? = some (cA, .boolean)) {k : Nat} {x : Int32} (hn : narrow .boolean (.int x) = .int x) (hdg : decode cc pc = .ok (.bastore, 1)) (kk : ∀ (H1 : Heap) (locs1 : List Loc), va_P D cl (ws.set q0 (a, .inl (cA, n, .inl (upd f k x)))) H1 → va_D A (ws.set q0 (a, .inl (cA, n, .inl (upd f k x)))) → va_S A H0 H1 locs1 → W p l e R s m args below meth c H1 locs1 cells slots Q (F0 m (pc + 1) ls rest)) (h1 : k < n := by omega) (h2 : n < 2 ^ 31 := by decide) : W p l e R s m args below meth c H locs cells slots Q (F0 m pc ls (.int x :: .int (nI k) :: .ref a :: rest)) := by
  refine va_zast hx hb hK hP hD hS q0 t0 ha ht (vp_in_nI h1 h2) hdg ?_
  have e1 : vp_nar .boolean x = x := by
    unfold vp_nar
    rw [hn]
  rw [nI_clamp (by omega), e1]
  exact kk
/-- apart and in A: by the addresses alone -/
theorem ww_Dad {A : Nat → Prop} {ws ws' : va_W} (h : va_D A ws) (e : ws'.map Prod.fst = ws.map Prod.fst) : va_D A ws' := by
  have key : ∀ (i : Nat) (q : Nat × va_E), ws'[i]? = some q → ∃ q2 : Nat × va_E, ws[i]? = some q2 ∧ q2.1 = q.1 := by
    intro i q hq
    have h1 : (ws'.map Prod.fst)[i]? = some q.1 := by rw [List.getElem?_map, hq]; rfl
    rw [e, List.getElem?_map] at h1
    cases hi : ws[i]? with
    | none => rw [hi] at h1; cases h1
    | some q2 => rw [hi] at h1; exact ⟨q2, rfl, Option.some.inj h1⟩
  refine ⟨fun i j x y hi hj hxy => ?_, fun k q hk => ?_⟩
  · obtain ⟨x2, h1, h2⟩ := key i x hi
    obtain ⟨y2, h3, h4⟩ := key j y hj
    exact h.1 i j x2 y2 h1 h3 (by rw [h2, h4, hxy])
  · obtain ⟨q2, h1, h2⟩ := key k q hk
    rw [← h2]
    exact h.2 k q2 h1
end
/-- the two kinds of object: WireWays 0, WireWaysModel 1 -/
abbrev ww_cl : List vw_C := [(RX1, TX1, 10), (RX2, TX2, 7)]
abbrev ww_fX (a : Nat → Nat) (n : Nat) (ol pl cu : Int32) : List Value := [.int (nI n), .ref (a 1), .ref (a 2), .ref (a 3), .ref (a 4), .ref (a 5), .ref (a 6), .int ol, .int pl, .int cu]
/-- the cells of a WireWays object -/
abbrev ww_X (a : Nat → Nat) (d : Nat → ClassId) (n : Nat) (fW fC fP fX fF fY : Nat → Int32) (ol pl cu : Int32) : va_W := [(a 0, .inr (0, ww_fX a n ol pl cu)), (a 1, .inl (d 1, 40, .inl fW)), (a 2, .inl (d 2, 40, .inl fC)), (a 3, .inl (d 3, 160, .inl fP)), (a 4, .inl (d 4, 16, .inl fX)), (a 5, .inl (d 5, 260, .inl fF)), (a 6, .inl (d 6, 260, .inl fY))]
abbrev ww_tX (d : Nat → ClassId) : List (ClassId × FieldType) := [(d 1, .int), (d 2, .int), (d 3, .int), (d 4, .boolean), (d 5, .int), (d 6, .int)]
abbrev ww_fM (a : Nat → Nat) (n : Nat) (wp wr : Int32) : List Value := [.int (nI n), .ref (a 1), .ref (a 2), .ref (a 3), .ref (a 4), .int wp, .int wr]
/-- the cells of a WireWaysModel object -/
abbrev ww_M (a : Nat → Nat) (d : Nat → ClassId) (n : Nat) (fW fC fX fZ : Nat → Int32) (wp wr : Int32) : va_W := [(a 0, .inr (1, ww_fM a n wp wr)), (a 1, .inl (d 1, 40, .inl fW)), (a 2, .inl (d 2, 40, .inl fC)), (a 3, .inl (d 3, 16, .inl fX)), (a 4, .inl (d 4, 10, .inl fZ))]
abbrev ww_tM (d : Nat → ClassId) : List (ClassId × FieldType) := [(d 1, .int), (d 2, .int), (d 3, .boolean), (d 4, .int)]
section
variable {p : Program} {l : Launch} {e : Env} {R : Room} {s : State} {m : MethodId} {args : Array Value} {below : List Frame} {meth : Method} {c : Code} {H : Heap} {locs : List Loc} {cells slots : Nat} {Q : State → Prop}
variable {cc : ByteArray} {pc : Nat} {ls : Array Slot} {rest : List Value} {D : va_G} {A : Nat → Prop} {H0 : Heap} {a : Nat → Nat} {d : Nat → ClassId} {n : Nat}
variable {fW fC fP fX fF fY fZ : Nat → Int32} {ol pl cu wp wr : Int32} {tys : List (ClassId × FieldType)}
/-- a field of WireWays is read -/
theorem ww_gX (k : Nat) {index : Nat} (hlink : Cond.fieldLink RX1 index RX1 (TX1 k).2.1 (TX1 k).2.2.1 ∈ lw_all) {v : Value} (hv : (ww_fX a n ol pl cu)[k]? = some v) (hx : p.tables.exec = Jvm.exec) (hb : c.code = cc) (hts : ∀ w ∈ lw_all, w.before args s = true) (hown : s.vm.findClass RX1 = some m.cls) (hK : va_K D ww_cl tys s) (hP : va_P D ww_cl (ww_X a d n fW fC fP fX fF fY ol pl cu) H) (hdg : decode cc pc = .ok (.getfield index, 3)) (kk : W p l e R s m args below meth c H locs cells slots Q (F0 m (pc + 3) ls (v :: rest))) (hT : (TX1 k).1 = RX1 := by rfl) (hk : k < 10 := by decide) : W p l e R s m args below meth c H locs cells slots Q (F0 m pc ls (.ref (a 0) :: rest)) :=
  va_get (D := D) (ci := 0) (v := v) (C := RX1) (T := TX1) (N := 10) hx hb hts in_X1 hown hK hP 0 rfl rfl k hk (hts _ hlink) (fun x h9 => by rw [hT] at h9; exact h9) hv hdg kk
/-- a field of WireWays that isn't final is written -/
theorem ww_pX (k : Nat) {index : Nat} (hlink : Cond.fieldLink RX1 index RX1 (TX1 k).2.1 (TX1 k).2.2.1 ∈ lw_all) (hx : p.tables.exec = Jvm.exec) (hb : c.code = cc) (hts : ∀ w ∈ lw_all, w.before args s = true) (hown : s.vm.findClass RX1 = some m.cls) (hK : va_K D ww_cl tys s) (hP : va_P D ww_cl (ww_X a d n fW fC fP fX fF fY ol pl cu) H) (hD : va_D A (ww_X a d n fW fC fP fX fF fY ol pl cu)) (hS : va_S A H0 H locs) {ty : FieldType} {v : Value} (hd : parseFieldDescriptor (TX1 k).2.2.1 = some ty) (hn : narrow ty v = v) (hfit : fits ty v = true) (hdg : decode cc pc = .ok (.putfield index, 3)) (kk : ∀ (H1 : Heap) (locs1 : List Loc), va_P D ww_cl ((ww_X a d n fW fC fP fX fF fY ol pl cu).set 0 (a 0, .inr (0, (ww_fX a n ol pl cu).set k v))) H1 → va_D A ((ww_X a d n fW fC fP fX fF fY ol pl cu).set 0 (a 0, .inr (0, (ww_fX a n ol pl cu).set k v))) → va_S A H0 H1 locs1 → W p l e R s m args below meth c H1 locs1 cells slots Q (F0 m (pc + 3) ls rest)) (hT : (TX1 k).1 = RX1 := by rfl) (hk : k < 10 := by decide) (hfin : (TX1 k).2.2.2 = false := by rfl) : W p l e R s m args below meth c H locs cells slots Q (F0 m pc ls (v :: .ref (a 0) :: rest)) :=
  va_put (D := D) (ci := 0) (v := v) (ty := ty) (C := RX1) (T := TX1) (N := 10) hx hb hts in_X1 tyX1 tyX1_ok nmX1 hown hK hP hD hS 0 rfl rfl k hk (hts _ hlink) (fun x h9 => by rw [hT] at h9; exact h9) hfin hd hn hfit hk hdg kk
theorem ww_gM (k : Nat) {index : Nat} (hlink : Cond.fieldLink RX2 index RX2 (TX2 k).2.1 (TX2 k).2.2.1 ∈ lw_all) {v : Value} (hv : (ww_fM a n wp wr)[k]? = some v) (hx : p.tables.exec = Jvm.exec) (hb : c.code = cc) (hts : ∀ w ∈ lw_all, w.before args s = true) (hown : s.vm.findClass RX2 = some m.cls) (hK : va_K D ww_cl tys s) (hP : va_P D ww_cl (ww_M a d n fW fC fX fZ wp wr) H) (hdg : decode cc pc = .ok (.getfield index, 3)) (kk : W p l e R s m args below meth c H locs cells slots Q (F0 m (pc + 3) ls (v :: rest))) (hT : (TX2 k).1 = RX2 := by rfl) (hk : k < 7 := by decide) : W p l e R s m args below meth c H locs cells slots Q (F0 m pc ls (.ref (a 0) :: rest)) :=
  va_get (D := D) (ci := 1) (v := v) (C := RX2) (T := TX2) (N := 7) hx hb hts in_X2 hown hK hP 0 rfl rfl k hk (hts _ hlink) (fun x h9 => by rw [hT] at h9; exact h9) hv hdg kk
theorem ww_pM (k : Nat) {index : Nat} (hlink : Cond.fieldLink RX2 index RX2 (TX2 k).2.1 (TX2 k).2.2.1 ∈ lw_all) (hx : p.tables.exec = Jvm.exec) (hb : c.code = cc) (hts : ∀ w ∈ lw_all, w.before args s = true) (hown : s.vm.findClass RX2 = some m.cls) (hK : va_K D ww_cl tys s) (hP : va_P D ww_cl (ww_M a d n fW fC fX fZ wp wr) H) (hD : va_D A (ww_M a d n fW fC fX fZ wp wr)) (hS : va_S A H0 H locs) {ty : FieldType} {v : Value} (hd : parseFieldDescriptor (TX2 k).2.2.1 = some ty) (hn : narrow ty v = v) (hfit : fits ty v = true) (hdg : decode cc pc = .ok (.putfield index, 3)) (kk : ∀ (H1 : Heap) (locs1 : List Loc), va_P D ww_cl ((ww_M a d n fW fC fX fZ wp wr).set 0 (a 0, .inr (1, (ww_fM a n wp wr).set k v))) H1 → va_D A ((ww_M a d n fW fC fX fZ wp wr).set 0 (a 0, .inr (1, (ww_fM a n wp wr).set k v))) → va_S A H0 H1 locs1 → W p l e R s m args below meth c H1 locs1 cells slots Q (F0 m (pc + 3) ls rest)) (hT : (TX2 k).1 = RX2 := by rfl) (hk : k < 7 := by decide) (hfin : (TX2 k).2.2.2 = false := by rfl) : W p l e R s m args below meth c H locs cells slots Q (F0 m pc ls (v :: .ref (a 0) :: rest)) :=
  va_put (D := D) (ci := 1) (v := v) (ty := ty) (C := RX2) (T := TX2) (N := 7) hx hb hts in_X2 tyX2 tyX2_ok nmX2 hown hK hP hD hS 0 rfl rfl k hk (hts _ hlink) (fun x h9 => by rw [hT] at h9; exact h9) hfin hd hn hfit hk hdg kk
end
end
section
/-! calls: a method that only reads (the heap stays), a method that writes its own world -/
abbrev ww_B (D : va_G) (tys : List (ClassId × FieldType)) (w : va_W) : State → Prop := fun U => va_P D ww_cl w U.heap ∧ va_K D ww_cl tys U
abbrev ww_C (D : va_G) (tys : List (ClassId × FieldType)) (w : va_W) (sz : Nat) : State → Prop := fun U => U.heap.size = sz ∧ va_P D ww_cl w U.heap ∧ va_K D ww_cl tys U ∧ va_D (fun _ => True) w
section
variable {p : Program} {l : Launch} {e : Env} {R : Room} {s : State} {m : MethodId} {args : Array Value} {below : List Frame} {meth : Method} {c : Code} {H : Heap} {locs : List Loc} {cells slots : Nat} {Q : State → Prop}
variable {cc : ByteArray} {pc : Nat} {ls : Array Slot} {rest st0 As : List Value} {D : va_G} {A : Nat → Prop} {H0 : Heap} {tys : List (ClassId × FieldType)} {w : va_W} {own : String}
variable {y : MethodName} {bytes : ByteArray} {maxL nL nn index ci a0 : Nat} {ret : Option FieldType} {rm : Room} {fs : List Value} {q : vw_C}
theorem ww_freeA (hD : va_D A w) (hS : va_S A H0 H locs) (hA : ∀ q : Nat, H0.size ≤ q → A q) : ∀ q, va_A w H.size q → A q := by
  intro q h
  rcases h with ⟨k, e, h⟩ | h
  · exact hD.2 k (q, e) h
  · exact hA q (Nat.le_trans hS.1 h)
/-- a call through an object of a method that only reads -/
theorem ww_ro {post : Int32 → Prop} (S : CallFix p m c cc nL s args lw_all own) (hK : va_K D ww_cl tys s) (hP : va_P D ww_cl w H) (hM : Met l y (ws_ y bytes maxL ret) rm (va_Pc (.ref a0 :: As) (ww_B D tys w)) (vp_Si post) 0 0 (fun _ => False)) (hc : ww_cl[ci]? = some q) (he : w[0]? = some (a0, .inr (ci, fs))) (cw : CallW R s args own q.1 index y bytes maxL ret (ws_ y bytes maxL ret) rm 0 0 nn) (hn : As.length = nn) (hst : st0 = As.reverse ++ .ref a0 :: rest) (hr : (rest.map fun v => v.category).sum ≤ 8) (hsz : ls.size = nL) (hf : cells ≤ R.cells ∧ slots ≤ R.slots) (hdg : decode cc pc = .ok (.invokevirtual index, 3)) (kk : ∀ r : Int32, post r → W p l e R s m args below meth c H locs cells slots Q (F0 m (pc + 3) ls (.int r :: rest))) : W p l e R s m args below meth c H locs cells slots Q (F0 m pc ls st0) := by
  have hr0 := va_runV (p := p) (l := l) (e := e) (R := R) (s := s) (m := m) (args := args) (below := below) (meth := meth) (c := c) (H := H) (locs := locs) (cells := cells) (slots := slots) (g := F0 m pc ls st0) (rest := rest) S hM cw ⟨fun a U g mk q => ⟨q.1, q.2.1, va_K.moved (u := U) (U := U.calling g mk a) (Vm.Alike.refl U.vm) q.2.2⟩, va_recv hK hP hc he, fun U hU hW => ⟨rfl, by rw [hU]; exact hP, va_K.moved hW.alike hK⟩⟩ rfl hn hsz hst (lv_room hr) hdg hf
  intro T hT X
  obtain ⟨v, st₀, t, T', L, h0, X', hL, e1, -, ⟨r, hv, hp, hh⟩, st⟩ := hr0 T hT X
  cases hv
  obtain ⟨t2, a1, b1⟩ := kk r hp T' (by rw [e1, hh, h0]) (Stand.forget X' (fun q h => (hL q h).elim))
  exact ⟨t2, st t2 a1, b1⟩
/-- a static call of a method that reads nothing -/
theorem ww_roS {post : Int32 → Prop} (S : CallFix p m c cc nL s args lw_all own) (hM : Met l y (ws_ y bytes maxL ret) rm (va_Pc As (fun _ => True)) (vp_Si post) 0 0 (fun _ => False)) (cw : CallB R s args own index y bytes maxL ret (ws_ y bytes maxL ret) rm 0 0 nn ∧ (Cond.static y).before args s = true) (hn : As.length = nn) (hst : st0 = As.reverse ++ rest) (hr : (rest.map fun v => v.category).sum ≤ 8) (hsz : ls.size = nL) (hf : cells ≤ R.cells ∧ slots ≤ R.slots) (hdg : decode cc pc = .ok (.invokestatic index, 3)) (kk : ∀ r : Int32, post r → W p l e R s m args below meth c H locs cells slots Q (F0 m (pc + 3) ls (.int r :: rest))) : W p l e R s m args below meth c H locs cells slots Q (F0 m pc ls st0) := by
  have hr0 := va_runS (p := p) (l := l) (e := e) (R := R) (s := s) (m := m) (args := args) (below := below) (meth := meth) (c := c) (H := H) (locs := locs) (cells := cells) (slots := slots) (g := F0 m pc ls st0) (rest := rest) S hM cw ⟨fun a U g mk q => q, fun U hU hW => ⟨rfl, trivial⟩⟩ rfl hn hsz hst (lv_room hr) hdg hf
  intro T hT X
  obtain ⟨v, st₀, t, T', L, h0, X', hL, e1, -, ⟨r, hv, hp, hh⟩, st⟩ := hr0 T hT X
  cases hv
  obtain ⟨t2, a1, b1⟩ := kk r hp T' (by rw [e1, hh, h0]) (Stand.forget X' (fun q h => (hL q h).elim))
  exact ⟨t2, st t2 a1, b1⟩
/-- a call through an object of a method that writes its own world and answers an int -/
theorem ww_rw {S : Type} {post : Int32 → S → Prop} {wf : S → va_W} (S0 : CallFix p m c cc nL s args lw_all own) (hK : va_K D ww_cl tys s) (hP : va_P D ww_cl w H) (hD : va_D A w) (hS : va_S A H0 H locs) (hA : ∀ q : Nat, H0.size ≤ q → A q) (hM : Met l y (ws_ y bytes maxL ret) rm (va_Pc (.ref a0 :: As) (ww_C D tys w H.size)) (va_Qi post (fun u t => va_P D ww_cl (wf u) t.heap) (va_A w H.size)) 0 0 (va_A w H.size)) (hc : ww_cl[ci]? = some q) (he : w[0]? = some (a0, .inr (ci, fs))) (cw : CallW R s args own q.1 index y bytes maxL ret (ws_ y bytes maxL ret) rm 0 0 nn) (hn : As.length = nn) (hst : st0 = As.reverse ++ .ref a0 :: rest) (hr : (rest.map fun v => v.category).sum ≤ 8) (hsz : ls.size = nL) (hf : cells ≤ R.cells ∧ slots ≤ R.slots) (hdg : decode cc pc = .ok (.invokevirtual index, 3)) (kk : ∀ (r : Int32) (u : S) (H1 : Heap) (locs1 : List Loc), post r u → va_P D ww_cl (wf u) H1 → (∀ q : Nat, q < H.size → ¬ va_A w H.size q → H1[q]? = H[q]?) → va_S A H0 H1 locs1 → W p l e R s m args below meth c H1 locs1 cells slots Q (F0 m (pc + 3) ls (.int r :: rest))) : W p l e R s m args below meth c H locs cells slots Q (F0 m pc ls st0) := by
  have hFc := ww_freeA hD hS hA
  refine va_calli (mc := 0) (ms := 0) (va_runV (g := F0 m pc ls st0) (rest := rest) S0 hM cw ⟨fun a U g mk q => ⟨q.1, q.2.1, q.2.2.1, va_K.moved (u := U) (U := U.calling g mk a) (Vm.Alike.refl U.vm) q.2.2.2.1, q.2.2.2.2⟩, va_recv hK hP hc he, fun U hU hW => ⟨rfl, by rw [hU], by rw [hU]; exact hP, va_K.moved hW.alike hK, hD.weaken (fun _ _ _ _ => trivial)⟩⟩ rfl hn hsz hst (lv_room hr) hdg hf) hS (fun q _ h => hFc q h) hFc (fun r u t H1 locs1 ht hvm hw hB hz1 hk1 hS1 => ?_)
  exact kk r u H1 locs1 hw (by rw [← ht]; exact hB) hk1 hS1
/-- the same, no answer -/
theorem ww_rv {S : Type} {post : S → Prop} {wf : S → va_W} (S0 : CallFix p m c cc nL s args lw_all own) (hK : va_K D ww_cl tys s) (hP : va_P D ww_cl w H) (hD : va_D A w) (hS : va_S A H0 H locs) (hA : ∀ q : Nat, H0.size ≤ q → A q) (hM : Met l y (ws_ y bytes maxL ret) rm (va_Pc (.ref a0 :: As) (ww_C D tys w H.size)) (va_Qv post (fun u t => va_P D ww_cl (wf u) t.heap) (va_A w H.size)) 0 0 (va_A w H.size)) (hc : ww_cl[ci]? = some q) (he : w[0]? = some (a0, .inr (ci, fs))) (cw : CallW R s args own q.1 index y bytes maxL ret (ws_ y bytes maxL ret) rm 0 0 nn) (hn : As.length = nn) (hst : st0 = As.reverse ++ .ref a0 :: rest) (hr : (rest.map fun v => v.category).sum ≤ 8) (hsz : ls.size = nL) (hf : cells ≤ R.cells ∧ slots ≤ R.slots) (hdg : decode cc pc = .ok (.invokevirtual index, 3)) (kk : ∀ (u : S) (H1 : Heap) (locs1 : List Loc), post u → va_P D ww_cl (wf u) H1 → (∀ q : Nat, q < H.size → ¬ va_A w H.size q → H1[q]? = H[q]?) → va_S A H0 H1 locs1 → W p l e R s m args below meth c H1 locs1 cells slots Q (F0 m (pc + 3) ls rest)) : W p l e R s m args below meth c H locs cells slots Q (F0 m pc ls st0) := by
  have hFc := ww_freeA hD hS hA
  refine va_callv (mc := 0) (ms := 0) (va_runV (g := F0 m pc ls st0) (rest := rest) S0 hM cw ⟨fun a U g mk q => ⟨q.1, q.2.1, q.2.2.1, va_K.moved (u := U) (U := U.calling g mk a) (Vm.Alike.refl U.vm) q.2.2.2.1, q.2.2.2.2⟩, va_recv hK hP hc he, fun U hU hW => ⟨rfl, by rw [hU], by rw [hU]; exact hP, va_K.moved hW.alike hK, hD.weaken (fun _ _ _ _ => trivial)⟩⟩ rfl hn hsz hst (lv_room hr) hdg hf) hS (fun q _ h => hFc q h) hFc (fun u t H1 locs1 ht hvm hw hB hz1 hk1 hS1 => ?_)
  exact kk u H1 locs1 hw (by rw [← ht]; exact hB) hk1 hS1
end
end
section
/-! plain words: ports, links, distances, ways -/
/-- the port of router r on wire w (the first of its four), -1 if none -/
def ww_po (W : Nat → Int32) (r : Nat) (w : Int32) : Int32 := if W (4 * r + 0) = w then nI 0 else if W (4 * r + 1) = w then nI 1 else if W (4 * r + 2) = w then nI 2 else if W (4 * r + 3) = w then nI 3 else -1
/-- port p of router r is on a wire that isn't cut -/
abbrev ww_up (W X : Nat → Int32) (r p : Nat) : Prop := W (4 * r + p) ≠ -1 ∧ X (W (4 * r + p)).toNatClampNeg = 0
/-- from r by port p to router q -/
abbrev ww_lk (W X : Nat → Int32) (r p q : Nat) : Prop := ww_up W X r p ∧ q ≠ r ∧ ww_po W q (W (4 * r + p)) ≠ -1
/-- what port p of r costs -/
def ww_cs (C : Nat → Int32) (r p : Nat) : Nat := (C (4 * r + p)).toNatClampNeg
/-- router r is at the aim a (a router a < 10, or the wire a - 10) -/
abbrev ww_at (W X : Nat → Int32) (a r : Nat) : Prop := (a < 10 ∧ r = a) ∨ (10 ≤ a ∧ X (a - 10) = 0 ∧ ww_po W r (nI (a - 10)) ≠ -1)
/-- wires, costs and cuts as they may be -/
def ww_net (W C X : Nat → Int32) : Prop := (∀ k, k < 40 → W k = -1 ∨ ∃ w, w < 16 ∧ W k = nI w) ∧ (∀ k, k < 40 → W k ≠ -1 → ∃ c, 1 ≤ c ∧ c ≤ 9 ∧ C k = nI c) ∧ (∀ w, w < 16 → X w = nI 0 ∨ X w = nI 1) ∧ (∀ r p p', r < 10 → p < 4 → p' < 4 → W (4 * r + p) = W (4 * r + p') → W (4 * r + p) ≠ -1 → p = p')
/-- the table of ports says what the wires say -/
def ww_pin (W P : Nat → Int32) : Prop := ∀ r w, r < 10 → w < 16 → P (16 * r + w) = ww_po W r (nI w)
/-- half a solution: bounded, 0 at the aim, and what is less than I is borne by a link -/
def ww_hs (I n : Nat) (W C X : Nat → Int32) (a : Nat) (F : Nat → Nat) : Prop := (∀ r, r < n → F r ≤ I) ∧ (∀ r, r < n → ww_at W X a r → F r = 0) ∧ (∀ r, r < n → F r < I → ww_at W X a r ∨ ∃ p q, p < 4 ∧ q < n ∧ ww_lk W X r p q ∧ ww_cs C r p + F q ≤ F r)
/-- a solution: no link makes it less -/
def ww_sol (I n : Nat) (W C X : Nat → Int32) (a : Nat) (F : Nat → Nat) : Prop := ww_hs I n W C X a F ∧ ∀ r p q, r < n → p < 4 → q < n → ww_lk W X r p q → F r ≤ ww_cs C r p + F q
theorem ww_m1 : (-1 : Int32).toInt = -1 := by decide
theorem ww_nm1 {n : Nat} (h : n < 2 ^ 31) : nI n ≠ -1 := by
  intro q
  have a := nI_toInt h
  rw [q, ww_m1] at a
  omega
theorem ww_po_lt (W : Nat → Int32) (r : Nat) (w : Int32) : ww_po W r w = -1 ∨ ∃ p, p < 4 ∧ ww_po W r w = nI p ∧ W (4 * r + p) = w := by
  unfold ww_po
  split
  · exact Or.inr ⟨0, by omega, rfl, by assumption⟩
  · split
    · exact Or.inr ⟨1, by omega, rfl, by assumption⟩
    · split
      · exact Or.inr ⟨2, by omega, rfl, by assumption⟩
      · split
        · exact Or.inr ⟨3, by omega, rfl, by assumption⟩
        · exact Or.inl rfl
theorem ww_po_none {W : Nat → Int32} {r : Nat} {w : Int32} : ww_po W r w = -1 ↔ ∀ p, p < 4 → W (4 * r + p) ≠ w := by
  constructor
  · intro h p hp e
    unfold ww_po at h
    have h0 := ww_nm1 (n := 0) (by decide)
    have h1 := ww_nm1 (n := 1) (by decide)
    have h2 := ww_nm1 (n := 2) (by decide)
    have h3 := ww_nm1 (n := 3) (by decide)
    rcases (show p = 0 ∨ p = 1 ∨ p = 2 ∨ p = 3 by omega) with rfl | rfl | rfl | rfl
    · rw [if_pos e] at h
      exact h0 h
    · split at h
      · exact h0 h
      · exact h1 h
    · split at h
      · exact h0 h
      · split at h
        · exact h1 h
        · exact h2 h
    · split at h
      · exact h0 h
      · split at h
        · exact h1 h
        · split at h
          · exact h2 h
          · exact h3 h
  · intro h
    rcases ww_po_lt W r w with q | ⟨p, hp, -, e⟩
    · exact q
    · exact absurd e (h p hp)
theorem ww_net_c {n : Nat} {W C X : Nat → Int32} (h : ww_net W C X) (hn : n ≤ 10) {r p : Nat} (hr : r < n) (hp : p < 4) (hw : W (4 * r + p) ≠ -1) : 1 ≤ ww_cs C r p ∧ ww_cs C r p ≤ 9 ∧ C (4 * r + p) = nI (ww_cs C r p) := by
  obtain ⟨c, h1, h2, h3⟩ := h.2.1 (4 * r + p) (by omega) hw
  unfold ww_cs
  rw [h3, nI_clamp (by omega)]
  exact ⟨h1, h2, rfl⟩
theorem ww_net_w {n : Nat} {W C X : Nat → Int32} (h : ww_net W C X) (hn : n ≤ 10) {r p : Nat} (hr : r < n) (hp : p < 4) (hw : W (4 * r + p) ≠ -1) : ∃ w, w < 16 ∧ W (4 * r + p) = nI w := by
  rcases h.1 (4 * r + p) (by omega) with q | q
  · exact absurd q hw
  · exact q
/-- two solutions are one -/
theorem ww_sol_le {I n : Nat} {W C X : Nat → Int32} {a : Nat} {F G : Nat → Nat} (hN : ww_net W C X) (hn : n ≤ 10) (hF : ww_sol I n W C X a F) (hG : ww_sol I n W C X a G) : ∀ (v r : Nat), r < n → F r = v → G r ≤ v := by
  intro v
  induction v using Nat.strongRecOn with
  | _ v ih =>
    intro r hr hv
    by_cases hI : F r < I
    · rcases hF.1.2.2 r hr hI with h | ⟨p, q, hp, hq, hl, hc⟩
      · have := hG.1.2.1 r hr h
        omega
      · have c1 := ww_net_c hN hn hr hp hl.1.1
        have g1 := ih (F q) (by omega) q hq rfl
        have g2 := hG.2 r p q hr hp hq hl
        omega
    · have b1 := hF.1.1 r hr
      have b2 := hG.1.1 r hr
      omega
theorem ww_sol_eq {I n : Nat} {W C X : Nat → Int32} {a : Nat} {F G : Nat → Nat} (hN : ww_net W C X) (hn : n ≤ 10) (hF : ww_sol I n W C X a F) (hG : ww_sol I n W C X a G) {r : Nat} (hr : r < n) : F r = G r :=
  Nat.le_antisymm (ww_sol_le hN hn hG hF _ r hr rfl) (ww_sol_le hN hn hF hG _ r hr rfl)
/-- how many below n -/
def ww_ct (p : Nat → Bool) : Nat → Nat
  | 0 => 0
  | k + 1 => ww_ct p k + (if p k = true then 1 else 0)
theorem ww_ct_le (p : Nat → Bool) : ∀ n, ww_ct p n ≤ n := by
  intro n
  induction n with
  | zero => exact Nat.le_refl 0
  | succ n ih =>
    unfold ww_ct
    split <;> omega
theorem ww_ct_mono {p q : Nat → Bool} (h : ∀ k, p k = true → q k = true) : ∀ n, ww_ct p n ≤ ww_ct q n := by
  intro n
  induction n with
  | zero => exact Nat.le_refl 0
  | succ n ih =>
    unfold ww_ct
    by_cases hp : p n = true
    · rw [if_pos hp, if_pos (h n hp)]
      omega
    · rw [if_neg hp]
      split <;> omega
theorem ww_ct_lt {p q : Nat → Bool} (h : ∀ k, p k = true → q k = true) {j : Nat} (hq : q j = true) (hp : ¬ p j = true) : ∀ n, j < n → ww_ct p n + 1 ≤ ww_ct q n := by
  intro n
  induction n with
  | zero => intro h; omega
  | succ n ih =>
    intro hj
    unfold ww_ct
    by_cases e : j = n
    · subst e
      rw [if_pos hq, if_neg hp]
      have := ww_ct_mono h j
      omega
    · have := ih (by omega)
      by_cases hp2 : p n = true
      · rw [if_pos hp2, if_pos (h n hp2)]
        omega
      · rw [if_neg hp2]
        split <;> omega
/-- a solution's distances are small -/
theorem ww_sol_small {I n : Nat} {W C X : Nat → Int32} {a : Nat} {F : Nat → Nat} (hN : ww_net W C X) (hn : n ≤ 10) (hF : ww_sol I n W C X a F) : ∀ (v r : Nat), r < n → F r = v → v < I → v ≤ 9 * ww_ct (fun x => decide (F x < v)) n := by
  intro v
  induction v using Nat.strongRecOn with
  | _ v ih =>
    intro r hr hv hI
    rcases hF.1.2.2 r hr (by omega) with h | ⟨p, q, hp, hq, hl, hc⟩
    · have := hF.1.2.1 r hr h
      omega
    · have c1 := ww_net_c hN hn hr hp hl.1.1
      have g1 := ih (F q) (by omega) q hq rfl (by omega)
      have g2 := hF.2 r p q hr hp hq hl
      have g3 := ww_ct_lt (p := fun x => decide (F x < F q)) (q := fun x => decide (F x < v)) (fun k hk => by
        have hk := of_decide_eq_true hk
        exact decide_eq_true (by omega)) (j := q) (decide_eq_true (by omega)) (by simp) n hq
      omega
theorem ww_sol_90 {I n : Nat} {W C X : Nat → Int32} {a : Nat} {F : Nat → Nat} (hN : ww_net W C X) (hn : n ≤ 10) (hF : ww_sol I n W C X a F) {r : Nat} (hr : r < n) (hI : F r < I) : F r ≤ 90 := by
  have h1 := ww_sol_small hN hn hF (F r) r hr rfl hI
  have h2 := ww_ct_le (fun x => decide (F x < F r)) n
  omega
/-- the reference's distances as the class's -/
def ww_nrm (G : Nat → Nat) : Nat → Nat := fun r => if G r < 100000 then G r else 9999
theorem ww_sol_nrm {n : Nat} {W C X : Nat → Int32} {a : Nat} {G : Nat → Nat} (hN : ww_net W C X) (hn : n ≤ 10) (hG : ww_sol 100000 n W C X a G) : ww_sol 9999 n W C X a (ww_nrm G) := by
  have sm : ∀ r, r < n → G r < 100000 → G r ≤ 90 := fun r hr h => ww_sol_90 hN hn hG hr h
  refine ⟨⟨?_, ?_, ?_⟩, ?_⟩
  · intro r hr
    unfold ww_nrm
    split
    · have := sm r hr (by assumption)
      omega
    · exact Nat.le_refl _
  · intro r hr h
    unfold ww_nrm
    rw [hG.1.2.1 r hr h]
    rfl
  · intro r hr h
    unfold ww_nrm at h
    by_cases hg : G r < 100000
    · rcases hG.1.2.2 r hr hg with h1 | ⟨p, q, hp, hq, hl, hc⟩
      · exact Or.inl h1
      · refine Or.inr ⟨p, q, hp, hq, hl, ?_⟩
        unfold ww_nrm
        rw [if_pos hg, if_pos (by omega)]
        exact hc
    · rw [if_neg hg] at h
      omega
  · intro r p q hr hp hq hl
    have c1 := ww_net_c hN hn hr hp hl.1.1
    have g := hG.2 r p q hr hp hq hl
    unfold ww_nrm
    by_cases hg : G q < 100000
    · have := sm q hq hg
      rw [if_pos hg, if_pos (by omega)]
      exact g
    · rw [if_neg hg]
      split
      · have := sm r hr (by assumption)
        omega
      · omega
/-- the distances to an aim -/
noncomputable def ww_D (n : Nat) (W C X : Nat → Int32) (a : Nat) : Nat → Nat := Classical.epsilon (fun F : Nat → Nat => ww_sol 9999 n W C X a F)
theorem ww_D_sol {n : Nat} {W C X : Nat → Int32} {a : Nat} {F : Nat → Nat} (hF : ww_sol 9999 n W C X a F) : ww_sol 9999 n W C X a (ww_D n W C X a) := Classical.epsilon_spec (p := fun F : Nat → Nat => ww_sol 9999 n W C X a F) ⟨F, hF⟩
theorem ww_D_eq {n : Nat} {W C X : Nat → Int32} {a : Nat} {F : Nat → Nat} (hN : ww_net W C X) (hn : n ≤ 10) (hF : ww_sol 9999 n W C X a F) {r : Nat} (hr : r < n) : F r = ww_D n W C X a r := ww_sol_eq hN hn hF (ww_D_sol hF) hr
/-- one link taken: half a solution stays one -/
theorem ww_hs_step {I n : Nat} {W C X : Nat → Int32} {a : Nat} {F : Nat → Nat} (hF : ww_hs I n W C X a F) {r p q : Nat} (hr : r < n) (hp : p < 4) (hq : q < n) (hl : ww_lk W X r p q) (hlt : ww_cs C r p + F q < F r) {G : Nat → Nat} (hGr : G r = ww_cs C r p + F q) (hGo : ∀ x, x ≠ r → x < n → G x = F x) : ww_hs I n W C X a G := by
  have b := hF.1 r hr
  refine ⟨fun x hx => ?_, fun x hx h => ?_, fun x hx h => ?_⟩
  · by_cases e : x = r
    · subst e; omega
    · rw [hGo x e hx]; exact hF.1 x hx
  · by_cases e : x = r
    · subst e
      have := hF.2.1 x hx h
      omega
    · rw [hGo x e hx]; exact hF.2.1 x hx h
  · by_cases e : x = r
    · subst e
      refine Or.inr ⟨p, q, hp, hq, hl, ?_⟩
      rw [hGo q hl.2.1 hq, hGr]
      exact Nat.le_refl _
    · rw [hGo x e hx] at h
      rcases hF.2.2 x hx h with h1 | ⟨p2, q2, hp2, hq2, hl2, hc2⟩
      · exact Or.inl h1
      · refine Or.inr ⟨p2, q2, hp2, hq2, hl2, ?_⟩
        rw [hGo x e hx]
        by_cases e2 : q2 = r
        · subst e2; omega
        · rw [hGo q2 e2 hq2]; exact hc2
end
section
/-! what is answered: plain functions of n, wires, costs, cuts -/
/-- the first least value below 9999, by its place -/
def ww_pk (v : Nat → Nat) : Nat → Option Nat
  | 0 => none
  | k + 1 => match ww_pk v k with
    | none => if v k < 9999 then some k else none
    | some j => if v k < v j then some k else some j
theorem ww_pk_lt {v : Nat → Nat} : ∀ {K j : Nat}, ww_pk v K = some j → j < K ∧ v j < 9999 := by
  intro K
  induction K with
  | zero => intro j h; cases h
  | succ K ih =>
    intro j h
    unfold ww_pk at h
    cases hp : ww_pk v K with
    | none =>
      rw [hp] at h
      simp only at h
      split at h
      · cases h
        exact ⟨by omega, by assumption⟩
      · cases h
    | some i =>
      rw [hp] at h
      simp only at h
      have hi := ih hp
      split at h
      · cases h
        exact ⟨by omega, by omega⟩
      · cases h
        exact ⟨by omega, hi.2⟩
theorem ww_pk_cong {v u : Nat → Nat} : ∀ {K : Nat}, (∀ k, k < K → v k = u k) → ww_pk v K = ww_pk u K := by
  intro K
  induction K with
  | zero => intro _; rfl
  | succ K ih =>
    intro h
    unfold ww_pk
    rw [ih (fun k hk => h k (by omega))]
    cases hp : ww_pk u K with
    | none => simp only; rw [h K (by omega)]
    | some j =>
      simp only
      rw [h K (by omega), h j (by have := (ww_pk_lt hp).1; omega)]
theorem ww_pk_skip {v : Nat → Nat} {K : Nat} : ∀ {L : Nat}, (∀ k, K ≤ k → k < K + L → 9999 ≤ v k) → ww_pk v (K + L) = ww_pk v K := by
  intro L
  induction L with
  | zero => intro _; rfl
  | succ L ih =>
    intro h
    have h1 := ih (fun k a b => h k a (by omega))
    show (match ww_pk v (K + L) with | none => if v (K + L) < 9999 then some (K + L) else none | some j => if v (K + L) < v j then some (K + L) else some j) = _
    rw [h1]
    have h2 := h (K + L) (by omega) (by omega)
    cases hp : ww_pk v K with
    | none => simp only; rw [if_neg (by omega)]
    | some j =>
      have := (ww_pk_lt hp).2
      simp only
      rw [if_neg (by omega)]
theorem ww_pk_none {v : Nat → Nat} : ∀ {K : Nat}, (∀ k, k < K → 9999 ≤ v k) → ww_pk v K = none := by
  intro K h
  have := ww_pk_skip (v := v) (K := 0) (L := K) (fun k _ b => h k (by omega))
  rw [Nat.zero_add] at this
  exact this
/-- what has been found: the least value yet -/
def ww_pv (I : Nat) (v : Nat → Nat) (K : Nat) : Nat := match ww_pk v K with
  | none => I
  | some j => v j
theorem ww_pk_take {I : Nat} {v : Nat → Nat} {K : Nat} (hI : v K < 9999 ↔ v K < I) (h : v K < ww_pv I v K) : ww_pk v (K + 1) = some K := by
  unfold ww_pv at h
  unfold ww_pk
  cases hp : ww_pk v K with
  | none => rw [hp] at h; simp only at h ⊢; rw [if_pos (hI.mpr h)]
  | some j => rw [hp] at h; simp only at h ⊢; rw [if_pos h]
theorem ww_pk_keep {I : Nat} {v : Nat → Nat} {K : Nat} (hI : v K < 9999 ↔ v K < I) (h : ww_pv I v K ≤ v K) : ww_pk v (K + 1) = ww_pk v K := by
  unfold ww_pv at h
  show (match ww_pk v K with | none => if v K < 9999 then some K else none | some j => if v K < v j then some K else some j) = _
  cases hp : ww_pk v K with
  | none => rw [hp] at h; simp only at h ⊢; rw [if_neg (fun q => absurd (hI.mp q) (by omega))]
  | some j => rw [hp] at h; simp only at h ⊢; rw [if_neg (by omega)]
/-- the value of the k-th pair (port k / n, router k % n) for router r -/
def ww_val (n : Nat) (W C X : Nat → Int32) (F : Nat → Nat) (r k : Nat) : Nat := if ww_lk W X r (k / n) (k % n) then ww_cs C r (k / n) + F (k % n) else 9999
/-- the port by which r is at the wire aim at once -/
def ww_dir (W X : Nat → Int32) (r a : Nat) : Int32 := if 10 ≤ a ∧ X (a - 10) = 0 then ww_po W r (nI (a - 10)) else -1
noncomputable def ww_best (n : Nat) (W C X : Nat → Int32) (r a : Nat) : Option Nat := ww_pk (ww_val n W C X (ww_D n W C X a) r) (4 * n)
def ww_enc (n : Nat) : Option Nat → Int32
  | none => -1
  | some k => nI (16 * (k / n) + k % n)
/-- what stands in the table of ways -/
noncomputable def ww_y (n : Nat) (W C X : Nat → Int32) (r a : Nat) : Int32 := if a = r then -1 else if ww_dir W X r a ≠ -1 then nI 16 * ww_dir W X r a + nI 15 else ww_enc n (ww_best n W C X r a)
noncomputable def ww_farS (n : Nat) (W C X : Nat → Int32) (r a : Nat) : Int32 := if ww_D n W C X a r < 9999 then nI (ww_D n W C X a r) else -1
noncomputable def ww_portS (n : Nat) (W C X : Nat → Int32) (r a : Nat) : Int32 := if a = r then -1 else if ww_dir W X r a ≠ -1 then ww_dir W X r a else match ww_best n W C X r a with
  | none => -1
  | some k => nI (k / n)
noncomputable def ww_nextS (n : Nat) (W C X : Nat → Int32) (r a : Nat) : Int32 := if a = r then -1 else if ww_dir W X r a ≠ -1 then -1 else match ww_best n W C X r a with
  | none => -1
  | some k => nI (k % n)
/-- what is asked is there -/
abbrev ww_isR (n : Nat) (r : Int32) : Prop := ¬ r < 0 ∧ ¬ nI n ≤ r
abbrev ww_isP (n : Nat) (r p : Int32) : Prop := ww_isR n r ∧ ¬ p < 0 ∧ ¬ nI 4 ≤ p
abbrev ww_isW (w : Int32) : Prop := ¬ w < 0 ∧ ¬ nI 16 ≤ w
abbrev ww_ok (n : Nat) (r ov t : Int32) : Prop := ww_isR n r ∧ ¬ t < 0 ∧ ¬ (if ov = 0 then nI n else nI 16) ≤ t
def ww_aim (ov t : Int32) : Nat := if ov = 0 then t.toNatClampNeg else 10 + t.toNatClampNeg
def ww_q (n : Nat) (S : Nat → Nat → Int32) (r ov t : Int32) : Int32 := if ww_ok n r ov t then S r.toNatClampNeg (ww_aim ov t) else -1
/-- k steps from at -/
def ww_wk (f : Int32 → Int32) : Nat → Int32 → Int32
  | 0, v => v
  | k + 1, v => if v = -1 then -1 else ww_wk f k (f v)
/-- how many of the first k routers are reached -/
def ww_rc (f : Nat → Int32) : Nat → Nat
  | 0 => 0
  | k + 1 => ww_rc f k + (if f k = -1 then 0 else 1)
/-- plugs, cuts -/
def ww_cw (W : Nat → Int32) : Nat → Nat
  | 0 => 0
  | k + 1 => ww_cw W k + (if W k = -1 then 0 else 1)
def ww_cc (X : Nat → Int32) : Nat → Nat
  | 0 => 0
  | k + 1 => ww_cc X k + (if X k = 0 then 0 else 1)
/-- the greatest distance between routers -/
def ww_gr (n : Nat) (W C X : Nat → Int32) (M : Nat) : Prop := (∀ r t, r < n → t < n → ww_D n W C X t r < 9999 → ww_D n W C X t r ≤ M) ∧ (M = 0 ∨ ∃ r t, r < n ∧ t < n ∧ ww_D n W C X t r < 9999 ∧ ww_D n W C X t r = M)
theorem ww_gr_one {n : Nat} {W C X : Nat → Int32} {M N : Nat} (h : ww_gr n W C X M) (g : ww_gr n W C X N) : M = N := by
  apply Nat.le_antisymm
  · rcases h.2 with q | ⟨r, t, h1, h2, h3, h4⟩
    · omega
    · have := g.1 r t h1 h2 h3; omega
  · rcases g.2 with q | ⟨r, t, h1, h2, h3, h4⟩
    · omega
    · have := h.1 r t h1 h2 h3; omega
/-- the class's tables, when they aren't old -/
def ww_tab (n : Nat) (W C X F Y : Nat → Int32) : Prop := (∀ a, a < 26 → ww_sol 9999 n W C X a (ww_D n W C X a)) ∧ (∀ r a, r < n → a < 26 → F (26 * r + a) = nI (ww_D n W C X a r)) ∧ ∀ r a, r < n → a < 26 → Y (26 * r + a) = ww_y n W C X r a
/-- what holds of a WireWays object between calls -/
def ww_inv (n : Nat) (W C P X F Y : Nat → Int32) (ol : Int32) : Prop := 1 ≤ n ∧ n ≤ 10 ∧ ww_net W C X ∧ ww_pin W P ∧ (ol = nI 0 ∨ ol = nI 1) ∧ (ol = nI 0 → ww_tab n W C X F Y)
end
section
/-! contracts of the methods that only read -/
/-- the aim as one number -/
def ww_ain (ov : Int32) (t : Nat) : Nat := if ov = 0 then t else 10 + t
theorem ww_at_r {fW fX : Nat → Int32} {ov : Int32} {t r : Nat} (ht : t < 10) (h : ov = 0) : ww_at fW fX (ww_ain ov t) r ↔ r = t := by
  unfold ww_ain
  rw [if_pos h]
  constructor
  · intro q
    rcases q with q | q
    · exact q.2
    · omega
  · intro q
    exact Or.inl ⟨ht, q⟩
theorem ww_at_w {fW fX : Nat → Int32} {ov : Int32} {t r : Nat} (h : ¬ ov = 0) : ww_at fW fX (ww_ain ov t) r ↔ fX t = 0 ∧ ww_po fW r (nI t) ≠ -1 := by
  unfold ww_ain
  rw [if_neg h]
  have e : 10 + t - 10 = t := by omega
  constructor
  · intro q
    rcases q with q | q
    · omega
    · rw [e] at q
      exact q.2
  · intro q
    refine Or.inr ⟨by omega, ?_⟩
    rw [e]
    exact q
/-- by port p to q, by the distances G; 100000 where one can't -/
def ww_byS (fW fC fX : Nat → Int32) (G : Nat → Nat) (r p q : Nat) : Nat := if ww_lk fW fX r p q ∧ G q < 100000 then ww_cs fC r p + G q else 100000
set_option maxHeartbeats 4000000 in
set_option maxRecDepth 100000 in
/-- isPort -/
theorem metX1_isPort (l : Launch) (D : va_G) (a : Nat → Nat) (d : Nat → ClassId) (n : Nat) (fW fC fP fX fF fY : Nat → Int32) (ol pl cu : Int32) (r q : Int32) : Met l yX1_isPort (ws_ yX1_isPort cX1_isPort 3 (some .boolean)) ({ frames := 0, cells := 0, slots := 0, locals := 0 }) (va_Pc [.ref (a 0), .int r, .int q] (ww_B D (ww_tX d) (ww_X a d n fW fC fP fX fF fY ol pl cu))) (vp_Si (fun v : Int32 => v = ww_b2 (ww_isP n r q))) 0 0 (fun _ => False) := by
  refine Met.ofW (cc := cX1_isPort) (maxL := 3) (ret := (some .boolean)) (by decide) rfl ?_
  intro pr e s m args below meth c s₁ B hml hv
  obtain ⟨rfl, hP, hK⟩ := hv
  have hx := B.exec
  have hb := B.bytes
  have hret := B.returns
  have hts := atoms_spec (ws := (ws_ yX1_isPort cX1_isPort 3 (some .boolean))) B.pre
  have hts : ∀ w ∈ lw_all, w.before _ s = true := fun w h => hts w (List.mem_cons_of_mem _ h)
  have hown : s.vm.findClass RX1 = some m.cls := findClass_of_methodNamed B.named
  have hlocks := B.notSynchronized
  have hP : va_P D ww_cl (ww_X a d n fW fC fP fX fF fY ol pl cu) s.heap := hP
  have hl := lv_entry ([.ref (a 0), .int r, .int q]) (n := 3) (Nat.le_of_ble_eq_true rfl)
  rw [lg_entry_eq]
  generalize (lg_sl ([.ref (a 0), .int r, .int q]) ++ List.replicate (3 - (lg_sl ([.ref (a 0), .int r, .int q])).length) Slot.unset).toArray = ls at hl ⊢
  have hl : lv_has ls 3 [(0, .ref (a 0)), (1, .int r), (2, .int q)] := hl
  refine lv_iload_n hx hb dX1_isPort_0 rfl (lv_at hl 1 rfl) ?_
  refine lv_if_lt (tgt := 25) hx hb dX1_isPort_1 (by decide) (fun c_1 => ?_) (fun c_1 => ?_)
  · refine lv_iconst (v := nI 0) hx hb dX1_isPort_25 (by decide) ?_
    exact W.zret hx hb hret (rfl) (fun t9 ht9 hW9 => ⟨_, rfl, (ww_b2_f (fun h => h.1.1 c_1)).symm, ht9⟩) (fun q h => by cases h) dX1_isPort_26
  · refine lv_iload_n hx hb dX1_isPort_4 rfl (lv_at hl 1 rfl) ?_
    refine lv_aload_n hx hb dX1_isPort_5 rfl (lv_at hl 0 rfl) ?_
    refine ww_gX 0 q36 rfl hx hb hts hown hK hP dX1_isPort_6 ?_
    refine lv_icmp_ge (tgt := 25) hx hb dX1_isPort_9 (by decide) (fun c_9 => ?_) (fun c_9 => ?_)
    · refine lv_iconst (v := nI 0) hx hb dX1_isPort_25 (by decide) ?_
      exact W.zret hx hb hret (rfl) (fun t9 ht9 hW9 => ⟨_, rfl, (ww_b2_f (fun h => h.1.2 c_9)).symm, ht9⟩) (fun q h => by cases h) dX1_isPort_26
    · refine lv_iload_n hx hb dX1_isPort_12 rfl (lv_at hl 2 rfl) ?_
      refine lv_if_lt (tgt := 25) hx hb dX1_isPort_13 (by decide) (fun c_13 => ?_) (fun c_13 => ?_)
      · refine lv_iconst (v := nI 0) hx hb dX1_isPort_25 (by decide) ?_
        exact W.zret hx hb hret (rfl) (fun t9 ht9 hW9 => ⟨_, rfl, (ww_b2_f (fun h => h.2.1 c_13)).symm, ht9⟩) (fun q h => by cases h) dX1_isPort_26
      · refine lv_iload_n hx hb dX1_isPort_16 rfl (lv_at hl 2 rfl) ?_
        refine lv_iconst (v := nI 4) hx hb dX1_isPort_17 (by decide) ?_
        refine lv_icmp_ge (tgt := 25) hx hb dX1_isPort_18 (by decide) (fun c_18 => ?_) (fun c_18 => ?_)
        · refine lv_iconst (v := nI 0) hx hb dX1_isPort_25 (by decide) ?_
          exact W.zret hx hb hret (rfl) (fun t9 ht9 hW9 => ⟨_, rfl, (ww_b2_f (fun h => h.2.2 c_18)).symm, ht9⟩) (fun q h => by cases h) dX1_isPort_26
        · refine lv_iconst (v := nI 1) hx hb dX1_isPort_21 (by decide) ?_
          refine lv_goto (tgt := 26) hx hb dX1_isPort_22 (by decide) ?_
          exact W.zret hx hb hret (rfl) (fun t9 ht9 hW9 => ⟨_, rfl, (ww_b2_t ⟨⟨c_1, c_9⟩, c_13, c_18⟩).symm, ht9⟩) (fun q h => by cases h) dX1_isPort_26
set_option maxHeartbeats 4000000 in
set_option maxRecDepth 100000 in
theorem metX2_isRouter (l : Launch) (D : va_G) (a : Nat → Nat) (d : Nat → ClassId) (n : Nat) (fW fC fX fZ : Nat → Int32) (wp wr : Int32) (r : Int32) : Met l yX2_isRouter (ws_ yX2_isRouter cX2_isRouter 2 (some .boolean)) ({ frames := 0, cells := 0, slots := 0, locals := 0 }) (va_Pc [.ref (a 0), .int r] (ww_B D (ww_tM d) (ww_M a d n fW fC fX fZ wp wr))) (vp_Si (fun v : Int32 => v = ww_b2 (ww_isR n r))) 0 0 (fun _ => False) := by
  refine Met.ofW (cc := cX2_isRouter) (maxL := 2) (ret := (some .boolean)) (by decide) rfl ?_
  intro pr e s m args below meth c s₁ B hml hv
  obtain ⟨rfl, hP, hK⟩ := hv
  have hx := B.exec
  have hb := B.bytes
  have hret := B.returns
  have hts := atoms_spec (ws := (ws_ yX2_isRouter cX2_isRouter 2 (some .boolean))) B.pre
  have hts : ∀ w ∈ lw_all, w.before _ s = true := fun w h => hts w (List.mem_cons_of_mem _ h)
  have hown : s.vm.findClass RX2 = some m.cls := findClass_of_methodNamed B.named
  have hlocks := B.notSynchronized
  have hP : va_P D ww_cl (ww_M a d n fW fC fX fZ wp wr) s.heap := hP
  have hl := lv_entry ([.ref (a 0), .int r]) (n := 2) (Nat.le_of_ble_eq_true rfl)
  rw [lg_entry_eq]
  generalize (lg_sl ([.ref (a 0), .int r]) ++ List.replicate (2 - (lg_sl ([.ref (a 0), .int r])).length) Slot.unset).toArray = ls at hl ⊢
  have hl : lv_has ls 2 [(0, .ref (a 0)), (1, .int r)] := hl
  refine lv_iload_n hx hb dX2_isRouter_0 rfl (lv_at hl 1 rfl) ?_
  refine lv_if_lt (tgt := 16) hx hb dX2_isRouter_1 (by decide) (fun c_1 => ?_) (fun c_1 => ?_)
  · refine lv_iconst (v := nI 0) hx hb dX2_isRouter_16 (by decide) ?_
    exact W.zret hx hb hret (rfl) (fun t9 ht9 hW9 => ⟨_, rfl, (ww_b2_f (fun h => h.1 c_1)).symm, ht9⟩) (fun q h => by cases h) dX2_isRouter_17
  · refine lv_iload_n hx hb dX2_isRouter_4 rfl (lv_at hl 1 rfl) ?_
    refine lv_aload_n hx hb dX2_isRouter_5 rfl (lv_at hl 0 rfl) ?_
    refine ww_gM 0 q160 rfl hx hb hts hown hK hP dX2_isRouter_6 ?_
    refine lv_icmp_ge (tgt := 16) hx hb dX2_isRouter_9 (by decide) (fun c_9 => ?_) (fun c_9 => ?_)
    · refine lv_iconst (v := nI 0) hx hb dX2_isRouter_16 (by decide) ?_
      exact W.zret hx hb hret (rfl) (fun t9 ht9 hW9 => ⟨_, rfl, (ww_b2_f (fun h => h.2 c_9)).symm, ht9⟩) (fun q h => by cases h) dX2_isRouter_17
    · refine lv_iconst (v := nI 1) hx hb dX2_isRouter_12 (by decide) ?_
      refine lv_goto (tgt := 17) hx hb dX2_isRouter_13 (by decide) ?_
      exact W.zret hx hb hret (rfl) (fun t9 ht9 hW9 => ⟨_, rfl, (ww_b2_t ⟨c_1, c_9⟩).symm, ht9⟩) (fun q h => by cases h) dX2_isRouter_17
set_option maxHeartbeats 4000000 in
set_option maxRecDepth 100000 in
theorem metX2_isWire (l : Launch)  (w : Int32) : Met l yX2_isWire (ws_ yX2_isWire cX2_isWire 1 (some .boolean)) ({ frames := 0, cells := 0, slots := 0, locals := 0 }) (va_Pc [.int w] (fun _ => True)) (vp_Si (fun v : Int32 => v = ww_b2 (ww_isW w))) 0 0 (fun _ => False) := by
  refine Met.ofW (cc := cX2_isWire) (maxL := 1) (ret := (some .boolean)) (by decide) rfl ?_
  intro pr e s m args below meth c s₁ B hml hv
  obtain ⟨rfl, -⟩ := hv
  have hx := B.exec
  have hb := B.bytes
  have hret := B.returns
  have hts := atoms_spec (ws := (ws_ yX2_isWire cX2_isWire 1 (some .boolean))) B.pre
  have hts : ∀ w ∈ lw_all, w.before _ s = true := fun w h => hts w (List.mem_cons_of_mem _ h)
  have hown : s.vm.findClass RX2 = some m.cls := findClass_of_methodNamed B.named
  have hlocks := B.notSynchronized
  have hl := lv_entry ([.int w]) (n := 1) (Nat.le_of_ble_eq_true rfl)
  rw [lg_entry_eq]
  generalize (lg_sl ([.int w]) ++ List.replicate (1 - (lg_sl ([.int w])).length) Slot.unset).toArray = ls at hl ⊢
  have hl : lv_has ls 1 [(0, .int w)] := hl
  refine lv_iload_n hx hb dX2_isWire_0 rfl (lv_at hl 0 rfl) ?_
  refine lv_if_lt (tgt := 14) hx hb dX2_isWire_1 (by decide) (fun c_1 => ?_) (fun c_1 => ?_)
  · refine lv_iconst (v := nI 0) hx hb dX2_isWire_14 (by decide) ?_
    exact W.zret hx hb hret (rfl) (fun t9 ht9 hW9 => ⟨_, rfl, (ww_b2_f (fun h => h.1 c_1)).symm, ht9⟩) (fun q h => by cases h) dX2_isWire_15
  · refine lv_iload_n hx hb dX2_isWire_4 rfl (lv_at hl 0 rfl) ?_
    refine lv_bipush (v := nI 16) hx hb dX2_isWire_5 (by decide) ?_
    refine lv_icmp_ge (tgt := 14) hx hb dX2_isWire_7 (by decide) (fun c_7 => ?_) (fun c_7 => ?_)
    · refine lv_iconst (v := nI 0) hx hb dX2_isWire_14 (by decide) ?_
      exact W.zret hx hb hret (rfl) (fun t9 ht9 hW9 => ⟨_, rfl, (ww_b2_f (fun h => h.2 c_7)).symm, ht9⟩) (fun q h => by cases h) dX2_isWire_15
    · refine lv_iconst (v := nI 1) hx hb dX2_isWire_10 (by decide) ?_
      refine lv_goto (tgt := 15) hx hb dX2_isWire_11 (by decide) ?_
      exact W.zret hx hb hret (rfl) (fun t9 ht9 hW9 => ⟨_, rfl, (ww_b2_t ⟨c_1, c_7⟩).symm, ht9⟩) (fun q h => by cases h) dX2_isWire_15
set_option maxHeartbeats 4000000 in
set_option maxRecDepth 100000 in
theorem metX2_isPlace (l : Launch) (D : va_G) (a : Nat → Nat) (d : Nat → ClassId) (n : Nat) (fW fC fX fZ : Nat → Int32) (wp wr : Int32) (r q : Int32) : Met l yX2_isPlace (ws_ yX2_isPlace cX2_isPlace 3 (some .boolean)) ({ frames := 1, cells := 0, slots := 0, locals := 21 }) (va_Pc [.ref (a 0), .int r, .int q] (ww_B D (ww_tM d) (ww_M a d n fW fC fX fZ wp wr))) (vp_Si (fun v : Int32 => v = ww_b2 (ww_isP n r q))) 0 0 (fun _ => False) := by
  refine Met.ofW (cc := cX2_isPlace) (maxL := 3) (ret := (some .boolean)) (by decide) rfl ?_
  intro pr e s m args below meth c s₁ B hml hv
  obtain ⟨rfl, hP, hK⟩ := hv
  have hx := B.exec
  have hb := B.bytes
  have hret := B.returns
  have hts := atoms_spec (ws := (ws_ yX2_isPlace cX2_isPlace 3 (some .boolean))) B.pre
  have hts : ∀ w ∈ lw_all, w.before _ s = true := fun w h => hts w (List.mem_cons_of_mem _ h)
  have hown : s.vm.findClass RX2 = some m.cls := findClass_of_methodNamed B.named
  have hlocks := B.notSynchronized
  have hP : va_P D ww_cl (ww_M a d n fW fC fX fZ wp wr) s.heap := hP
  have hl := lv_entry ([.ref (a 0), .int r, .int q]) (n := 3) (Nat.le_of_ble_eq_true rfl)
  rw [lg_entry_eq]
  generalize (lg_sl ([.ref (a 0), .int r, .int q]) ++ List.replicate (3 - (lg_sl ([.ref (a 0), .int r, .int q])).length) Slot.unset).toArray = ls at hl ⊢
  have hl : lv_has ls 3 [(0, .ref (a 0)), (1, .int r), (2, .int q)] := hl
  refine lv_aload_n hx hb dX2_isPlace_0 rfl (lv_at hl 0 rfl) ?_
  refine lv_iload_n hx hb dX2_isPlace_1 rfl (lv_at hl 1 rfl) ?_
  refine ww_ro (As := [.int r]) (rest := []) ⟨hx, hb, hml, hown, hts⟩ hK hP (metX2_isRouter l D a d n fW fC fX fZ wp wr r) rfl rfl (cwV 1 hts (lw_V q190 q192 qs10 q21 q193) rfl rfl rfl (by decide +kernel) ⟨Nat.le_of_ble_eq_true rfl, Nat.le_of_ble_eq_true rfl⟩) rfl rfl (Nat.le_of_ble_eq_true rfl) hl.1 ⟨Nat.zero_le _, Nat.zero_le _⟩ dX2_isPlace_2 (fun r_2 h_2 => ?_)
  have h_2 : r_2 = ww_b2 (ww_isR n r) := h_2
  subst h_2
  refine ww_if_eqB (tgt := 21) hx hb dX2_isPlace_5 (by decide) (fun c_5 => ?_) (fun c_5 => ?_)
  · refine lv_iconst (v := nI 0) hx hb dX2_isPlace_21 (by decide) ?_
    exact W.zret hx hb hret (rfl) (fun t9 ht9 hW9 => ⟨_, rfl, (ww_b2_f (fun h => c_5 h.1)).symm, ht9⟩) (fun q h => by cases h) dX2_isPlace_22
  · refine lv_iload_n hx hb dX2_isPlace_8 rfl (lv_at hl 2 rfl) ?_
    refine lv_if_lt (tgt := 21) hx hb dX2_isPlace_9 (by decide) (fun c_9 => ?_) (fun c_9 => ?_)
    · refine lv_iconst (v := nI 0) hx hb dX2_isPlace_21 (by decide) ?_
      exact W.zret hx hb hret (rfl) (fun t9 ht9 hW9 => ⟨_, rfl, (ww_b2_f (fun h => h.2.1 c_9)).symm, ht9⟩) (fun q h => by cases h) dX2_isPlace_22
    · refine lv_iload_n hx hb dX2_isPlace_12 rfl (lv_at hl 2 rfl) ?_
      refine lv_iconst (v := nI 4) hx hb dX2_isPlace_13 (by decide) ?_
      refine lv_icmp_ge (tgt := 21) hx hb dX2_isPlace_14 (by decide) (fun c_14 => ?_) (fun c_14 => ?_)
      · refine lv_iconst (v := nI 0) hx hb dX2_isPlace_21 (by decide) ?_
        exact W.zret hx hb hret (rfl) (fun t9 ht9 hW9 => ⟨_, rfl, (ww_b2_f (fun h => h.2.2 c_14)).symm, ht9⟩) (fun q h => by cases h) dX2_isPlace_22
      · refine lv_iconst (v := nI 1) hx hb dX2_isPlace_17 (by decide) ?_
        refine lv_goto (tgt := 22) hx hb dX2_isPlace_18 (by decide) ?_
        exact W.zret hx hb hret (rfl) (fun t9 ht9 hW9 => ⟨_, rfl, (ww_b2_t ⟨c_5, c_9, c_14⟩).symm, ht9⟩) (fun q h => by cases h) dX2_isPlace_22
set_option maxHeartbeats 4000000 in
set_option maxRecDepth 100000 in
theorem metX2_portOn (l : Launch) (D : va_G) (a : Nat → Nat) (d : Nat → ClassId) (n : Nat) (fW fC fX fZ : Nat → Int32) (wp wr : Int32) (r : Nat) (w : Int32) (hr : r < 10) : Met l yX2_portOn (ws_ yX2_portOn cX2_portOn 4 (some .int)) ({ frames := 0, cells := 0, slots := 0, locals := 0 }) (va_Pc [.ref (a 0), .int (nI r), .int w] (ww_B D (ww_tM d) (ww_M a d n fW fC fX fZ wp wr))) (vp_Si (fun v : Int32 => v = ww_po fW r w)) 0 0 (fun _ => False) := by
  refine Met.ofW (cc := cX2_portOn) (maxL := 4) (ret := (some .int)) (by decide) rfl ?_
  intro pr e s m args below meth c s₁ B hml hv
  obtain ⟨rfl, hP, hK⟩ := hv
  have hx := B.exec
  have hb := B.bytes
  have hret := B.returns
  have hts := atoms_spec (ws := (ws_ yX2_portOn cX2_portOn 4 (some .int))) B.pre
  have hts : ∀ w ∈ lw_all, w.before _ s = true := fun w h => hts w (List.mem_cons_of_mem _ h)
  have hown : s.vm.findClass RX2 = some m.cls := findClass_of_methodNamed B.named
  have hlocks := B.notSynchronized
  have hP : va_P D ww_cl (ww_M a d n fW fC fX fZ wp wr) s.heap := hP
  have hl := lv_entry ([.ref (a 0), .int (nI r), .int w]) (n := 4) (Nat.le_of_ble_eq_true rfl)
  rw [lg_entry_eq]
  generalize (lg_sl ([.ref (a 0), .int (nI r), .int w]) ++ List.replicate (4 - (lg_sl ([.ref (a 0), .int (nI r), .int w])).length) Slot.unset).toArray = ls at hl ⊢
  have hl : lv_has ls 4 [(0, .ref (a 0)), (1, .int (nI r)), (2, .int w)] := hl
  refine lv_iconst (v := nI 0) hx hb dX2_portOn_0 (by decide) ?_
  refine lv_istore_n (lv' := [(3, .int (nI 0)), (0, .ref (a 0)), (1, .int (nI r)), (2, .int w)]) hx hb dX2_portOn_1 rfl hl (by decide) rfl (fun ls hl => ?_)
  refine lv_iload_n hx hb dX2_portOn_2 rfl (lv_at hl 0 rfl) ?_
  refine lv_iconst (v := nI 4) hx hb dX2_portOn_3 (by decide) ?_
  refine ww_icmp_ge (tgt := 29) hx hb dX2_portOn_4 (by decide) (fun c_4 => absurd c_4 (by decide)) (fun c_4 => ?_)
  refine lv_aload_n hx hb dX2_portOn_7 rfl (lv_at hl 1 rfl) ?_
  refine ww_gM 1 q161 rfl hx hb hts hown hK hP dX2_portOn_8 ?_
  refine lv_iconst (v := nI 4) hx hb dX2_portOn_11 (by decide) ?_
  refine lv_iload_n hx hb dX2_portOn_12 rfl (lv_at hl 2 rfl) ?_
  refine ww_imul hx hb dX2_portOn_13 ?_
  refine lv_iload_n hx hb dX2_portOn_14 rfl (lv_at hl 0 rfl) ?_
  refine ww_iadd hx hb dX2_portOn_15 ?_
  refine ww_iald hx hb hK hP 1 0 rfl rfl dX2_portOn_16 ?_
  refine lv_iload_n hx hb dX2_portOn_17 rfl (lv_at hl 3 rfl) ?_
  refine lv_icmp_ne (tgt := 23) hx hb dX2_portOn_18 (by decide) (fun c_180 => ?_) (fun c_180 => ?_)
  · refine lv_iinc (v := nI 1) (lv' := [(3, .int (nI 1)), (0, .ref (a 0)), (1, .int (nI r)), (2, .int w)]) hx hb dX2_portOn_23 hl (k := 0) rfl (ww_inc 0) (by decide) rfl (fun ls hl => ?_)
    refine lv_goto (tgt := 2) hx hb dX2_portOn_26 (by decide) ?_
    refine lv_iload_n hx hb dX2_portOn_2 rfl (lv_at hl 0 rfl) ?_
    refine lv_iconst (v := nI 4) hx hb dX2_portOn_3 (by decide) ?_
    refine ww_icmp_ge (tgt := 29) hx hb dX2_portOn_4 (by decide) (fun c_4 => absurd c_4 (by decide)) (fun c_4 => ?_)
    refine lv_aload_n hx hb dX2_portOn_7 rfl (lv_at hl 1 rfl) ?_
    refine ww_gM 1 q161 rfl hx hb hts hown hK hP dX2_portOn_8 ?_
    refine lv_iconst (v := nI 4) hx hb dX2_portOn_11 (by decide) ?_
    refine lv_iload_n hx hb dX2_portOn_12 rfl (lv_at hl 2 rfl) ?_
    refine ww_imul hx hb dX2_portOn_13 ?_
    refine lv_iload_n hx hb dX2_portOn_14 rfl (lv_at hl 0 rfl) ?_
    refine ww_iadd hx hb dX2_portOn_15 ?_
    refine ww_iald hx hb hK hP 1 0 rfl rfl dX2_portOn_16 ?_
    refine lv_iload_n hx hb dX2_portOn_17 rfl (lv_at hl 3 rfl) ?_
    refine lv_icmp_ne (tgt := 23) hx hb dX2_portOn_18 (by decide) (fun c_181 => ?_) (fun c_181 => ?_)
    · refine lv_iinc (v := nI 2) (lv' := [(3, .int (nI 2)), (0, .ref (a 0)), (1, .int (nI r)), (2, .int w)]) hx hb dX2_portOn_23 hl (k := 0) rfl (ww_inc 1) (by decide) rfl (fun ls hl => ?_)
      refine lv_goto (tgt := 2) hx hb dX2_portOn_26 (by decide) ?_
      refine lv_iload_n hx hb dX2_portOn_2 rfl (lv_at hl 0 rfl) ?_
      refine lv_iconst (v := nI 4) hx hb dX2_portOn_3 (by decide) ?_
      refine ww_icmp_ge (tgt := 29) hx hb dX2_portOn_4 (by decide) (fun c_4 => absurd c_4 (by decide)) (fun c_4 => ?_)
      refine lv_aload_n hx hb dX2_portOn_7 rfl (lv_at hl 1 rfl) ?_
      refine ww_gM 1 q161 rfl hx hb hts hown hK hP dX2_portOn_8 ?_
      refine lv_iconst (v := nI 4) hx hb dX2_portOn_11 (by decide) ?_
      refine lv_iload_n hx hb dX2_portOn_12 rfl (lv_at hl 2 rfl) ?_
      refine ww_imul hx hb dX2_portOn_13 ?_
      refine lv_iload_n hx hb dX2_portOn_14 rfl (lv_at hl 0 rfl) ?_
      refine ww_iadd hx hb dX2_portOn_15 ?_
      refine ww_iald hx hb hK hP 1 0 rfl rfl dX2_portOn_16 ?_
      refine lv_iload_n hx hb dX2_portOn_17 rfl (lv_at hl 3 rfl) ?_
      refine lv_icmp_ne (tgt := 23) hx hb dX2_portOn_18 (by decide) (fun c_182 => ?_) (fun c_182 => ?_)
      · refine lv_iinc (v := nI 3) (lv' := [(3, .int (nI 3)), (0, .ref (a 0)), (1, .int (nI r)), (2, .int w)]) hx hb dX2_portOn_23 hl (k := 0) rfl (ww_inc 2) (by decide) rfl (fun ls hl => ?_)
        refine lv_goto (tgt := 2) hx hb dX2_portOn_26 (by decide) ?_
        refine lv_iload_n hx hb dX2_portOn_2 rfl (lv_at hl 0 rfl) ?_
        refine lv_iconst (v := nI 4) hx hb dX2_portOn_3 (by decide) ?_
        refine ww_icmp_ge (tgt := 29) hx hb dX2_portOn_4 (by decide) (fun c_4 => absurd c_4 (by decide)) (fun c_4 => ?_)
        refine lv_aload_n hx hb dX2_portOn_7 rfl (lv_at hl 1 rfl) ?_
        refine ww_gM 1 q161 rfl hx hb hts hown hK hP dX2_portOn_8 ?_
        refine lv_iconst (v := nI 4) hx hb dX2_portOn_11 (by decide) ?_
        refine lv_iload_n hx hb dX2_portOn_12 rfl (lv_at hl 2 rfl) ?_
        refine ww_imul hx hb dX2_portOn_13 ?_
        refine lv_iload_n hx hb dX2_portOn_14 rfl (lv_at hl 0 rfl) ?_
        refine ww_iadd hx hb dX2_portOn_15 ?_
        refine ww_iald hx hb hK hP 1 0 rfl rfl dX2_portOn_16 ?_
        refine lv_iload_n hx hb dX2_portOn_17 rfl (lv_at hl 3 rfl) ?_
        refine lv_icmp_ne (tgt := 23) hx hb dX2_portOn_18 (by decide) (fun c_183 => ?_) (fun c_183 => ?_)
        · refine lv_iinc (v := nI 4) (lv' := [(3, .int (nI 4)), (0, .ref (a 0)), (1, .int (nI r)), (2, .int w)]) hx hb dX2_portOn_23 hl (k := 0) rfl (ww_inc 3) (by decide) rfl (fun ls hl => ?_)
          refine lv_goto (tgt := 2) hx hb dX2_portOn_26 (by decide) ?_
          refine lv_iload_n hx hb dX2_portOn_2 rfl (lv_at hl 0 rfl) ?_
          refine lv_iconst (v := nI 4) hx hb dX2_portOn_3 (by decide) ?_
          refine ww_icmp_ge (tgt := 29) hx hb dX2_portOn_4 (by decide) (fun c_4 => ?_) (fun c_4 => absurd c_4 (by decide))
          refine lv_iconst (v := -1) hx hb dX2_portOn_29 (by decide) ?_
          exact W.iret hx hb hret (fun t9 ht9 hW9 => ⟨_, rfl, by unfold ww_po; rw [if_neg c_180, if_neg c_181, if_neg c_182, if_neg c_183], ht9⟩) (fun q h => by cases h) dX2_portOn_30
        · refine lv_iload_n hx hb dX2_portOn_21 rfl (lv_at hl 0 rfl) ?_
          exact W.iret hx hb hret (fun t9 ht9 hW9 => ⟨_, rfl, by unfold ww_po; rw [if_neg c_180, if_neg c_181, if_neg c_182, if_pos c_183], ht9⟩) (fun q h => by cases h) dX2_portOn_22
      · refine lv_iload_n hx hb dX2_portOn_21 rfl (lv_at hl 0 rfl) ?_
        exact W.iret hx hb hret (fun t9 ht9 hW9 => ⟨_, rfl, by unfold ww_po; rw [if_neg c_180, if_neg c_181, if_pos c_182], ht9⟩) (fun q h => by cases h) dX2_portOn_22
    · refine lv_iload_n hx hb dX2_portOn_21 rfl (lv_at hl 0 rfl) ?_
      exact W.iret hx hb hret (fun t9 ht9 hW9 => ⟨_, rfl, by unfold ww_po; rw [if_neg c_180, if_pos c_181], ht9⟩) (fun q h => by cases h) dX2_portOn_22
  · refine lv_iload_n hx hb dX2_portOn_21 rfl (lv_at hl 0 rfl) ?_
    exact W.iret hx hb hret (fun t9 ht9 hW9 => ⟨_, rfl, by unfold ww_po; rw [if_pos c_180], ht9⟩) (fun q h => by cases h) dX2_portOn_22
set_option maxHeartbeats 4000000 in
set_option maxRecDepth 100000 in
theorem metX2_isAt (l : Launch) (D : va_G) (a : Nat → Nat) (d : Nat → ClassId) (n : Nat) (fW fC fX fZ : Nat → Int32) (wp wr : Int32) (r : Nat) (ov : Int32) (t : Nat) (hr : r < 10) (ht0 : ov = 0 → t < 10) (ht1 : ¬ ov = 0 → t < 16) : Met l yX2_isAt (ws_ yX2_isAt cX2_isAt 4 (some .boolean)) ({ frames := 1, cells := 0, slots := 0, locals := 23 }) (va_Pc [.ref (a 0), .int (nI r), .int ov, .int (nI t)] (ww_B D (ww_tM d) (ww_M a d n fW fC fX fZ wp wr))) (vp_Si (fun v : Int32 => v = ww_b2 (ww_at fW fX (ww_ain ov t) r))) 0 0 (fun _ => False) := by
  refine Met.ofW (cc := cX2_isAt) (maxL := 4) (ret := (some .boolean)) (by decide) rfl ?_
  intro pr e s m args below meth c s₁ B hml hv
  obtain ⟨rfl, hP, hK⟩ := hv
  have hx := B.exec
  have hb := B.bytes
  have hret := B.returns
  have hts := atoms_spec (ws := (ws_ yX2_isAt cX2_isAt 4 (some .boolean))) B.pre
  have hts : ∀ w ∈ lw_all, w.before _ s = true := fun w h => hts w (List.mem_cons_of_mem _ h)
  have hown : s.vm.findClass RX2 = some m.cls := findClass_of_methodNamed B.named
  have hlocks := B.notSynchronized
  have hP : va_P D ww_cl (ww_M a d n fW fC fX fZ wp wr) s.heap := hP
  have hl := lv_entry ([.ref (a 0), .int (nI r), .int ov, .int (nI t)]) (n := 4) (Nat.le_of_ble_eq_true rfl)
  rw [lg_entry_eq]
  generalize (lg_sl ([.ref (a 0), .int (nI r), .int ov, .int (nI t)]) ++ List.replicate (4 - (lg_sl ([.ref (a 0), .int (nI r), .int ov, .int (nI t)])).length) Slot.unset).toArray = ls at hl ⊢
  have hl : lv_has ls 4 [(0, .ref (a 0)), (1, .int (nI r)), (2, .int ov), (3, .int (nI t))] := hl
  refine lv_iload_n hx hb dX2_isAt_0 rfl (lv_at hl 2 rfl) ?_
  refine lv_if_eq (tgt := 31) hx hb dX2_isAt_1 (by decide) (fun c_1 => ?_) (fun c_1 => ?_)
  · have ht2 := ht0 c_1
    refine lv_iload_n hx hb dX2_isAt_31 rfl (lv_at hl 1 rfl) ?_
    refine lv_iload_n hx hb dX2_isAt_32 rfl (lv_at hl 3 rfl) ?_
    refine ww_icmp_ne (tgt := 40) hx hb dX2_isAt_33 (by decide) (fun c_33 => ?_) (fun c_33 => ?_)
    · refine lv_iconst (v := nI 0) hx hb dX2_isAt_40 (by decide) ?_
      exact W.zret hx hb hret (rfl) (fun t9 ht9 hW9 => ⟨_, rfl, (ww_b2_f (fun h => c_33 ((ww_at_r (ht0 c_1) c_1).mp h))).symm, ht9⟩) (fun q h => by cases h) dX2_isAt_41
    · refine lv_iconst (v := nI 1) hx hb dX2_isAt_36 (by decide) ?_
      refine lv_goto (tgt := 41) hx hb dX2_isAt_37 (by decide) ?_
      exact W.zret hx hb hret (rfl) (fun t9 ht9 hW9 => ⟨_, rfl, (ww_b2_t ((ww_at_r (ht0 c_1) c_1).mpr c_33)).symm, ht9⟩) (fun q h => by cases h) dX2_isAt_41
  · have ht1 := ht1 c_1
    refine lv_aload_n hx hb dX2_isAt_4 rfl (lv_at hl 0 rfl) ?_
    refine ww_gM 3 q163 rfl hx hb hts hown hK hP dX2_isAt_5 ?_
    refine lv_iload_n hx hb dX2_isAt_8 rfl (lv_at hl 3 rfl) ?_
    refine ww_zald hx hb hK hP 3 2 rfl rfl dX2_isAt_9 ?_
    refine lv_if_ne (tgt := 27) hx hb dX2_isAt_10 (by decide) (fun c_10 => ?_) (fun c_10 => ?_)
    · refine lv_iconst (v := nI 0) hx hb dX2_isAt_27 (by decide) ?_
      refine lv_goto (tgt := 41) hx hb dX2_isAt_28 (by decide) ?_
      exact W.zret hx hb hret (rfl) (fun t9 ht9 hW9 => ⟨_, rfl, (ww_b2_f (fun h => c_10 ((ww_at_w c_1).mp h).1)).symm, ht9⟩) (fun q h => by cases h) dX2_isAt_41
    · refine lv_aload_n hx hb dX2_isAt_13 rfl (lv_at hl 0 rfl) ?_
      refine lv_iload_n hx hb dX2_isAt_14 rfl (lv_at hl 1 rfl) ?_
      refine lv_iload_n hx hb dX2_isAt_15 rfl (lv_at hl 3 rfl) ?_
      refine ww_ro (As := [.int (nI r), .int (nI t)]) (rest := []) ⟨hx, hb, hml, hown, hts⟩ hK hP (metX2_portOn l D a d n fW fC fX fZ wp wr r (nI t) hr) rfl rfl (cwV 2 hts (lw_V q197 q199 qs11 q21 q200) rfl rfl rfl (by decide +kernel) ⟨Nat.le_of_ble_eq_true rfl, Nat.le_of_ble_eq_true rfl⟩) rfl rfl (Nat.le_of_ble_eq_true rfl) hl.1 ⟨Nat.zero_le _, Nat.zero_le _⟩ dX2_isAt_16 (fun r_16 h_16 => ?_)
      have h_16 : r_16 = ww_po fW r (nI t) := h_16
      subst h_16
      refine lv_iconst (v := -1) hx hb dX2_isAt_19 (by decide) ?_
      refine lv_icmp_eq (tgt := 27) hx hb dX2_isAt_20 (by decide) (fun c_20 => ?_) (fun c_20 => ?_)
      · refine lv_iconst (v := nI 0) hx hb dX2_isAt_27 (by decide) ?_
        refine lv_goto (tgt := 41) hx hb dX2_isAt_28 (by decide) ?_
        exact W.zret hx hb hret (rfl) (fun t9 ht9 hW9 => ⟨_, rfl, (ww_b2_f (fun h => ((ww_at_w c_1).mp h).2 c_20)).symm, ht9⟩) (fun q h => by cases h) dX2_isAt_41
      · refine lv_iconst (v := nI 1) hx hb dX2_isAt_23 (by decide) ?_
        refine lv_goto (tgt := 41) hx hb dX2_isAt_24 (by decide) ?_
        exact W.zret hx hb hret (rfl) (fun t9 ht9 hW9 => ⟨_, rfl, (ww_b2_t ((ww_at_w c_1).mpr ⟨c_10, c_20⟩)).symm, ht9⟩) (fun q h => by cases h) dX2_isAt_41
set_option maxHeartbeats 4000000 in
set_option maxRecDepth 100000 in
theorem metX2_by (l : Launch) (D : va_G) (a : Nat → Nat) (d : Nat → ClassId) (n : Nat) (fW fC fX fZ : Nat → Int32) (wp wr : Int32) (G : Nat → Nat) (r p q : Nat) (hn : n ≤ 10) (hN : ww_net fW fC fX) (hZ : ∀ x, x < n → fZ x = nI (G x) ∧ G x ≤ 100000) (hr : r < n) (hp : p < 4) (hq : q < n) : Met l yX2_by (ws_ yX2_by cX2_by 5 (some .int)) ({ frames := 1, cells := 0, slots := 0, locals := 23 }) (va_Pc [.ref (a 0), .int (nI r), .int (nI p), .int (nI q)] (ww_B D (ww_tM d) (ww_M a d n fW fC fX fZ wp wr))) (vp_Si (fun v : Int32 => v = nI (ww_byS fW fC fX G r p q))) 0 0 (fun _ => False) := by
  refine Met.ofW (cc := cX2_by) (maxL := 5) (ret := (some .int)) (by decide) rfl ?_
  intro pr e s m args below meth c s₁ B hml hv
  obtain ⟨rfl, hP, hK⟩ := hv
  have hx := B.exec
  have hb := B.bytes
  have hret := B.returns
  have hts := atoms_spec (ws := (ws_ yX2_by cX2_by 5 (some .int))) B.pre
  have hts : ∀ w ∈ lw_all, w.before _ s = true := fun w h => hts w (List.mem_cons_of_mem _ h)
  have hown : s.vm.findClass RX2 = some m.cls := findClass_of_methodNamed B.named
  have hlocks := B.notSynchronized
  have hP : va_P D ww_cl (ww_M a d n fW fC fX fZ wp wr) s.heap := hP
  have hl := lv_entry ([.ref (a 0), .int (nI r), .int (nI p), .int (nI q)]) (n := 5) (Nat.le_of_ble_eq_true rfl)
  rw [lg_entry_eq]
  generalize (lg_sl ([.ref (a 0), .int (nI r), .int (nI p), .int (nI q)]) ++ List.replicate (5 - (lg_sl ([.ref (a 0), .int (nI r), .int (nI p), .int (nI q)])).length) Slot.unset).toArray = ls at hl ⊢
  have hl : lv_has ls 5 [(0, .ref (a 0)), (1, .int (nI r)), (2, .int (nI p)), (3, .int (nI q))] := hl
  refine lv_aload_n hx hb dX2_by_0 rfl (lv_at hl 0 rfl) ?_
  refine ww_gM 1 q161 rfl hx hb hts hown hK hP dX2_by_1 ?_
  refine lv_iconst (v := nI 4) hx hb dX2_by_4 (by decide) ?_
  refine lv_iload_n hx hb dX2_by_5 rfl (lv_at hl 1 rfl) ?_
  refine ww_imul hx hb dX2_by_6 ?_
  refine lv_iload_n hx hb dX2_by_7 rfl (lv_at hl 2 rfl) ?_
  refine ww_iadd hx hb dX2_by_8 ?_
  refine ww_iald hx hb hK hP 1 0 rfl rfl dX2_by_9 ?_
  refine lv_istore (lv' := [(4, .int (fW ((4 * r) + p))), (0, .ref (a 0)), (1, .int (nI r)), (2, .int (nI p)), (3, .int (nI q))]) hx hb dX2_by_10 hl (by decide) rfl (fun ls hl => ?_)
  refine lv_iload hx hb dX2_by_12 (lv_at hl 0 rfl) ?_
  refine lv_iconst (v := -1) hx hb dX2_by_14 (by decide) ?_
  refine lv_icmp_eq (tgt := 44) hx hb dX2_by_15 (by decide) (fun c_15 => ?_) (fun c_15 => ?_)
  · refine lv_ldc (v := nI 100000) hx hb hown (hts _ q233) dX2_by_44 ?_
    exact W.iret hx hb hret (fun t9 ht9 hW9 => ⟨_, rfl, congrArg nI (if_neg (fun h => h.1.1.1 c_15)).symm, ht9⟩) (fun q h => by cases h) dX2_by_46
  · obtain ⟨w, hw, ew⟩ := ww_net_w hN hn hr hp c_15
    refine lv_aload_n hx hb dX2_by_18 rfl (lv_at hl 1 rfl) ?_
    refine ww_gM 3 q163 rfl hx hb hts hown hK hP dX2_by_19 ?_
    refine lv_iload hx hb dX2_by_22 (lv_at hl 0 rfl) ?_
    refine ww_top (ew) ?_
    refine ww_zald hx hb hK hP 3 2 rfl rfl dX2_by_24 ?_
    refine lv_if_ne (tgt := 44) hx hb dX2_by_25 (by decide) (fun c_25 => ?_) (fun c_25 => ?_)
    · refine lv_ldc (v := nI 100000) hx hb hown (hts _ q233) dX2_by_44 ?_
      exact W.iret hx hb hret (fun t9 ht9 hW9 => ⟨_, rfl, congrArg nI (if_neg (fun h => c_25 (by have z := h.1.1.2; rw [ew, nI_clamp (by omega)] at z; exact z))).symm, ht9⟩) (fun q h => by cases h) dX2_by_46
    · refine lv_iload_n hx hb dX2_by_28 rfl (lv_at hl 4 rfl) ?_
      refine lv_iload_n hx hb dX2_by_29 rfl (lv_at hl 2 rfl) ?_
      refine ww_icmp_eq (tgt := 44) hx hb dX2_by_30 (by decide) (fun c_30 => ?_) (fun c_30 => ?_)
      · refine lv_ldc (v := nI 100000) hx hb hown (hts _ q233) dX2_by_44 ?_
        exact W.iret hx hb hret (fun t9 ht9 hW9 => ⟨_, rfl, congrArg nI (if_neg (fun h => h.1.2.1 c_30)).symm, ht9⟩) (fun q h => by cases h) dX2_by_46
      · refine lv_aload_n hx hb dX2_by_33 rfl (lv_at hl 1 rfl) ?_
        refine lv_iload_n hx hb dX2_by_34 rfl (lv_at hl 4 rfl) ?_
        refine lv_iload hx hb dX2_by_35 (lv_at hl 0 rfl) ?_
        refine ww_ro (As := [.int (nI q), .int (fW ((4 * r) + p))]) (rest := []) ⟨hx, hb, hml, hown, hts⟩ hK hP (metX2_portOn l D a d n fW fC fX fZ wp wr q (fW (4 * r + p)) (by omega)) rfl rfl (cwV 2 hts (lw_V q197 q199 qs11 q21 q200) rfl rfl rfl (by decide +kernel) ⟨Nat.le_of_ble_eq_true rfl, Nat.le_of_ble_eq_true rfl⟩) rfl rfl (Nat.le_of_ble_eq_true rfl) hl.1 ⟨Nat.zero_le _, Nat.zero_le _⟩ dX2_by_37 (fun r_37 h_37 => ?_)
        have h_37 : r_37 = ww_po fW q (fW (4 * r + p)) := h_37
        subst h_37
        refine lv_iconst (v := -1) hx hb dX2_by_40 (by decide) ?_
        refine lv_icmp_ne (tgt := 47) hx hb dX2_by_41 (by decide) (fun c_41 => ?_) (fun c_41 => ?_)
        · refine lv_aload_n hx hb dX2_by_47 rfl (lv_at hl 1 rfl) ?_
          refine ww_gM 4 q164 rfl hx hb hts hown hK hP dX2_by_48 ?_
          refine lv_iload_n hx hb dX2_by_51 rfl (lv_at hl 4 rfl) ?_
          refine ww_iald hx hb hK hP 4 3 rfl rfl dX2_by_52 ?_
          refine ww_top ((hZ q hq).1) ?_
          refine lv_ldc (v := nI 100000) hx hb hown (hts _ q233) dX2_by_53 ?_
          have hG := (hZ q hq).2
          refine ww_icmp_lt (tgt := 63) hx hb dX2_by_55 (by decide) (fun c_55 => ?_) (fun c_55 => ?_)
          · refine lv_aload_n hx hb dX2_by_63 rfl (lv_at hl 1 rfl) ?_
            refine ww_gM 2 q162 rfl hx hb hts hown hK hP dX2_by_64 ?_
            refine lv_iconst (v := nI 4) hx hb dX2_by_67 (by decide) ?_
            refine lv_iload_n hx hb dX2_by_68 rfl (lv_at hl 2 rfl) ?_
            refine ww_imul hx hb dX2_by_69 ?_
            refine lv_iload_n hx hb dX2_by_70 rfl (lv_at hl 3 rfl) ?_
            refine ww_iadd hx hb dX2_by_71 ?_
            refine ww_iald hx hb hK hP 2 1 rfl rfl dX2_by_72 ?_
            refine ww_top ((ww_net_c hN hn hr hp c_15).2.2) ?_
            refine lv_aload_n hx hb dX2_by_73 rfl (lv_at hl 1 rfl) ?_
            refine ww_gM 4 q164 rfl hx hb hts hown hK hP dX2_by_74 ?_
            refine lv_iload_n hx hb dX2_by_77 rfl (lv_at hl 4 rfl) ?_
            refine ww_iald hx hb hK hP 4 3 rfl rfl dX2_by_78 ?_
            refine ww_top ((hZ q hq).1) ?_
            refine ww_iadd hx hb dX2_by_79 ?_
            exact W.iret hx hb hret (fun t9 ht9 hW9 => ⟨_, rfl, congrArg nI (if_pos ⟨⟨⟨c_15, by rw [ew, nI_clamp (by omega)]; exact c_25⟩, c_30, c_41⟩, c_55⟩).symm, ht9⟩) (fun q h => by cases h) dX2_by_80
          · refine lv_ldc (v := nI 100000) hx hb hown (hts _ q233) dX2_by_58 ?_
            refine lv_goto (tgt := 80) hx hb dX2_by_60 (by decide) ?_
            exact W.iret hx hb hret (fun t9 ht9 hW9 => ⟨_, rfl, congrArg nI (if_neg (fun h => by have z := h.2; omega)).symm, ht9⟩) (fun q h => by cases h) dX2_by_80
        · refine lv_ldc (v := nI 100000) hx hb hown (hts _ q233) dX2_by_44 ?_
          exact W.iret hx hb hret (fun t9 ht9 hW9 => ⟨_, rfl, congrArg nI (if_neg (fun h => h.1.2.2 c_41)).symm, ht9⟩) (fun q h => by cases h) dX2_by_46
set_option maxHeartbeats 4000000 in
set_option maxRecDepth 100000 in
theorem metX1_isUp (l : Launch) (D : va_G) (a : Nat → Nat) (d : Nat → ClassId) (n : Nat) (fW fC fP fX fF fY : Nat → Int32) (ol pl cu : Int32) (r p : Nat) (hn : n ≤ 10) (hN : ww_net fW fC fX) (hr : r < n) (hp : p < 4) : Met l yX1_isUp (ws_ yX1_isUp cX1_isUp 4 (some .boolean)) ({ frames := 0, cells := 0, slots := 0, locals := 0 }) (va_Pc [.ref (a 0), .int (nI r), .int (nI p)] (ww_B D (ww_tX d) (ww_X a d n fW fC fP fX fF fY ol pl cu))) (vp_Si (fun v : Int32 => v = ww_b2 (ww_up fW fX r p))) 0 0 (fun _ => False) := by
  refine Met.ofW (cc := cX1_isUp) (maxL := 4) (ret := (some .boolean)) (by decide) rfl ?_
  intro pr e s m args below meth c s₁ B hml hv
  obtain ⟨rfl, hP, hK⟩ := hv
  have hx := B.exec
  have hb := B.bytes
  have hret := B.returns
  have hts := atoms_spec (ws := (ws_ yX1_isUp cX1_isUp 4 (some .boolean))) B.pre
  have hts : ∀ w ∈ lw_all, w.before _ s = true := fun w h => hts w (List.mem_cons_of_mem _ h)
  have hown : s.vm.findClass RX1 = some m.cls := findClass_of_methodNamed B.named
  have hlocks := B.notSynchronized
  have hP : va_P D ww_cl (ww_X a d n fW fC fP fX fF fY ol pl cu) s.heap := hP
  have hl := lv_entry ([.ref (a 0), .int (nI r), .int (nI p)]) (n := 4) (Nat.le_of_ble_eq_true rfl)
  rw [lg_entry_eq]
  generalize (lg_sl ([.ref (a 0), .int (nI r), .int (nI p)]) ++ List.replicate (4 - (lg_sl ([.ref (a 0), .int (nI r), .int (nI p)])).length) Slot.unset).toArray = ls at hl ⊢
  have hl : lv_has ls 4 [(0, .ref (a 0)), (1, .int (nI r)), (2, .int (nI p))] := hl
  refine lv_aload_n hx hb dX1_isUp_0 rfl (lv_at hl 0 rfl) ?_
  refine ww_gX 1 q37 rfl hx hb hts hown hK hP dX1_isUp_1 ?_
  refine lv_iload_n hx hb dX1_isUp_4 rfl (lv_at hl 1 rfl) ?_
  refine lv_iconst (v := nI 4) hx hb dX1_isUp_5 (by decide) ?_
  refine ww_imulc hx hb dX1_isUp_6 ?_
  refine lv_iload_n hx hb dX1_isUp_7 rfl (lv_at hl 2 rfl) ?_
  refine ww_iadd hx hb dX1_isUp_8 ?_
  refine ww_iald hx hb hK hP 1 0 rfl rfl dX1_isUp_9 ?_
  refine lv_istore_n (lv' := [(3, .int (fW ((4 * r) + p))), (0, .ref (a 0)), (1, .int (nI r)), (2, .int (nI p))]) hx hb dX1_isUp_10 rfl hl (by decide) rfl (fun ls hl => ?_)
  refine lv_iload_n hx hb dX1_isUp_11 rfl (lv_at hl 0 rfl) ?_
  refine lv_iconst (v := -1) hx hb dX1_isUp_12 (by decide) ?_
  refine lv_icmp_eq (tgt := 29) hx hb dX1_isUp_13 (by decide) (fun c_13 => ?_) (fun c_13 => ?_)
  · refine lv_iconst (v := nI 0) hx hb dX1_isUp_29 (by decide) ?_
    exact W.zret hx hb hret (rfl) (fun t9 ht9 hW9 => ⟨_, rfl, (ww_b2_f (fun h => h.1 c_13)).symm, ht9⟩) (fun q h => by cases h) dX1_isUp_30
  · obtain ⟨w, hw, ew⟩ := ww_net_w hN hn hr hp c_13
    refine lv_aload_n hx hb dX1_isUp_16 rfl (lv_at hl 1 rfl) ?_
    refine ww_gX 4 q40 rfl hx hb hts hown hK hP dX1_isUp_17 ?_
    refine lv_iload_n hx hb dX1_isUp_20 rfl (lv_at hl 0 rfl) ?_
    refine ww_top (ew) ?_
    refine ww_zald hx hb hK hP 4 3 rfl rfl dX1_isUp_21 ?_
    refine lv_if_ne (tgt := 29) hx hb dX1_isUp_22 (by decide) (fun c_22 => ?_) (fun c_22 => ?_)
    · refine lv_iconst (v := nI 0) hx hb dX1_isUp_29 (by decide) ?_
      exact W.zret hx hb hret (rfl) (fun t9 ht9 hW9 => ⟨_, rfl, (ww_b2_f (fun h => c_22 (by have z := h.2; rw [ew, nI_clamp (by omega)] at z; exact z))).symm, ht9⟩) (fun q h => by cases h) dX1_isUp_30
    · refine lv_iconst (v := nI 1) hx hb dX1_isUp_25 (by decide) ?_
      refine lv_goto (tgt := 30) hx hb dX1_isUp_26 (by decide) ?_
      exact W.zret hx hb hret (rfl) (fun t9 ht9 hW9 => ⟨_, rfl, (ww_b2_t ⟨c_13, by rw [ew, nI_clamp (by omega)]; exact c_22⟩).symm, ht9⟩) (fun q h => by cases h) dX1_isUp_30
set_option maxHeartbeats 4000000 in
set_option maxRecDepth 100000 in
theorem metX1_direct (l : Launch) (D : va_G) (a : Nat → Nat) (d : Nat → ClassId) (n : Nat) (fW fC fP fX fF fY : Nat → Int32) (ol pl cu : Int32) (r t : Nat) (hn : n ≤ 10) (hp : ww_pin fW fP) (hr : r < n) (ht : t < 26) : Met l yX1_direct (ws_ yX1_direct cX1_direct 4 (some .int)) ({ frames := 0, cells := 0, slots := 0, locals := 0 }) (va_Pc [.ref (a 0), .int (nI r), .int (nI t)] (ww_B D (ww_tX d) (ww_X a d n fW fC fP fX fF fY ol pl cu))) (vp_Si (fun v : Int32 => v = ww_dir fW fX r t)) 0 0 (fun _ => False) := by
  refine Met.ofW (cc := cX1_direct) (maxL := 4) (ret := (some .int)) (by decide) rfl ?_
  intro pr e s m args below meth c s₁ B hml hv
  obtain ⟨rfl, hP, hK⟩ := hv
  have hx := B.exec
  have hb := B.bytes
  have hret := B.returns
  have hts := atoms_spec (ws := (ws_ yX1_direct cX1_direct 4 (some .int))) B.pre
  have hts : ∀ w ∈ lw_all, w.before _ s = true := fun w h => hts w (List.mem_cons_of_mem _ h)
  have hown : s.vm.findClass RX1 = some m.cls := findClass_of_methodNamed B.named
  have hlocks := B.notSynchronized
  have hP : va_P D ww_cl (ww_X a d n fW fC fP fX fF fY ol pl cu) s.heap := hP
  have hl := lv_entry ([.ref (a 0), .int (nI r), .int (nI t)]) (n := 4) (Nat.le_of_ble_eq_true rfl)
  rw [lg_entry_eq]
  generalize (lg_sl ([.ref (a 0), .int (nI r), .int (nI t)]) ++ List.replicate (4 - (lg_sl ([.ref (a 0), .int (nI r), .int (nI t)])).length) Slot.unset).toArray = ls at hl ⊢
  have hl : lv_has ls 4 [(0, .ref (a 0)), (1, .int (nI r)), (2, .int (nI t))] := hl
  rcases Nat.lt_or_ge t 10 with h10 | h10
  · refine lv_iload_n hx hb dX1_direct_0 rfl (lv_at hl 2 rfl) ?_
    refine lv_bipush (v := nI 10) hx hb dX1_direct_1 (by decide) ?_
    refine lv_isub hx hb dX1_direct_3 ?_
    refine lv_istore_n (lv' := [(3, .int (nI t - nI 10)), (0, .ref (a 0)), (1, .int (nI r)), (2, .int (nI t))]) hx hb dX1_direct_4 rfl hl (by decide) rfl (fun ls hl => ?_)
    refine lv_iload_n hx hb dX1_direct_5 rfl (lv_at hl 0 rfl) ?_
    refine lv_if_lt (tgt := 32) hx hb dX1_direct_6 (by decide) (fun c_6 => ?_) (fun c_6 => ?_)
    · refine lv_iconst (v := -1) hx hb dX1_direct_32 (by decide) ?_
      exact W.iret hx hb hret (fun t9 ht9 hW9 => ⟨_, rfl, by unfold ww_dir; rw [if_neg (by omega)], ht9⟩) (fun q h => by cases h) dX1_direct_33
    · exact absurd (pk_sneg (by decide) h10) c_6
  · refine lv_iload_n hx hb dX1_direct_0 rfl (lv_at hl 2 rfl) ?_
    refine lv_bipush (v := nI 10) hx hb dX1_direct_1 (by decide) ?_
    refine ww_isub hx hb dX1_direct_3 ?_
    refine lv_istore_n (lv' := [(3, .int (nI (t - 10))), (0, .ref (a 0)), (1, .int (nI r)), (2, .int (nI t))]) hx hb dX1_direct_4 rfl hl (by decide) rfl (fun ls hl => ?_)
    refine lv_iload_n hx hb dX1_direct_5 rfl (lv_at hl 0 rfl) ?_
    refine ww_if_ltN (tgt := 32) hx hb dX1_direct_6 ?_
    refine lv_aload_n hx hb dX1_direct_9 rfl (lv_at hl 1 rfl) ?_
    refine ww_gX 4 q40 rfl hx hb hts hown hK hP dX1_direct_10 ?_
    refine lv_iload_n hx hb dX1_direct_13 rfl (lv_at hl 0 rfl) ?_
    refine ww_zald hx hb hK hP 4 3 rfl rfl dX1_direct_14 ?_
    refine lv_if_ne (tgt := 32) hx hb dX1_direct_15 (by decide) (fun c_15 => ?_) (fun c_15 => ?_)
    · refine lv_iconst (v := -1) hx hb dX1_direct_32 (by decide) ?_
      exact W.iret hx hb hret (fun t9 ht9 hW9 => ⟨_, rfl, by unfold ww_dir; rw [if_neg (fun h => c_15 h.2)], ht9⟩) (fun q h => by cases h) dX1_direct_33
    · refine lv_aload_n hx hb dX1_direct_18 rfl (lv_at hl 1 rfl) ?_
      refine ww_gX 3 q39 rfl hx hb hts hown hK hP dX1_direct_19 ?_
      refine lv_iload_n hx hb dX1_direct_22 rfl (lv_at hl 2 rfl) ?_
      refine lv_bipush (v := nI 16) hx hb dX1_direct_23 (by decide) ?_
      refine ww_imulc hx hb dX1_direct_25 ?_
      refine lv_iload_n hx hb dX1_direct_26 rfl (lv_at hl 0 rfl) ?_
      refine ww_iadd hx hb dX1_direct_27 ?_
      refine ww_iald hx hb hK hP 3 2 rfl rfl dX1_direct_28 ?_
      refine lv_goto (tgt := 33) hx hb dX1_direct_29 (by decide) ?_
      exact W.iret hx hb hret (fun t9 ht9 hW9 => ⟨_, rfl, by unfold ww_dir; rw [if_pos ⟨h10, c_15⟩]; exact hp r (t - 10) (by omega) (by omega), ht9⟩) (fun q h => by cases h) dX1_direct_33
end
section
/-! contracts of the methods that change wires, costs, cuts -/
abbrev ww_okp (n : Nat) (fW : Nat → Int32) (r q w k : Int32) : Prop := ww_isP n r q ∧ ww_isW w ∧ ¬ k < nI 1 ∧ k ≤ nI 9 ∧ fW (4 * r.toNatClampNeg + q.toNatClampNeg) = -1 ∧ ww_po fW r.toNatClampNeg w = -1
abbrev ww_okd (n : Nat) (fW : Nat → Int32) (r q : Int32) : Prop := ww_isP n r q ∧ ¬ fW (4 * r.toNatClampNeg + q.toNatClampNeg) = -1
abbrev ww_okc (n : Nat) (fW : Nat → Int32) (r q k : Int32) : Prop := ww_isP n r q ∧ ¬ fW (4 * r.toNatClampNeg + q.toNatClampNeg) = -1 ∧ ¬ k < nI 1 ∧ k ≤ nI 9
set_option maxHeartbeats 4000000 in
set_option maxRecDepth 100000 in
theorem metX1_plug (l : Launch) (D : va_G) (a : Nat → Nat) (d : Nat → ClassId) (n : Nat) (fW fC fP fX fF fY : Nat → Int32) (ol pl cu : Int32) (sz : Nat) (r q w k : Int32) (hn : n ≤ 10) (hp : ww_pin fW fP) : Met l yX1_plug (ws_ yX1_plug cX1_plug 5 (some .boolean)) ({ frames := 1, cells := 0, slots := 0, locals := 22 }) (va_Pc [.ref (a 0), .int r, .int q, .int w, .int k] (ww_C D (ww_tX d) (ww_X a d n fW fC fP fX fF fY ol pl cu) sz)) (va_Qi (fun (v : Int32) (u : (Nat → Int32) × (Nat → Int32) × (Nat → Int32) × Int32 × Int32) => v = ww_b2 (ww_okp n fW r q w k) ∧ (ww_okp n fW r q w k → u = (upd fW (4 * r.toNatClampNeg + q.toNatClampNeg) w, upd fC (4 * r.toNatClampNeg + q.toNatClampNeg) k, upd fP (16 * r.toNatClampNeg + w.toNatClampNeg) q, nI 1, pl + nI 1)) ∧ (¬ (ww_okp n fW r q w k) → u = (fW, fC, fP, ol, pl))) (fun (u : (Nat → Int32) × (Nat → Int32) × (Nat → Int32) × Int32 × Int32) t => va_P D ww_cl (ww_X a d n u.1 u.2.1 u.2.2.1 fX fF fY u.2.2.2.1 u.2.2.2.2 cu) t.heap) (va_A (ww_X a d n fW fC fP fX fF fY ol pl cu) sz)) 0 0 (va_A (ww_X a d n fW fC fP fX fF fY ol pl cu) sz) := by
  refine Met.ofW (cc := cX1_plug) (maxL := 5) (ret := (some .boolean)) (by decide) rfl ?_
  intro pr e s m args below meth c s₁ B hml hv
  obtain ⟨rfl, hsz, hP, hK, hD0⟩ := hv
  have hx := B.exec
  have hb := B.bytes
  have hret := B.returns
  have hts := atoms_spec (ws := (ws_ yX1_plug cX1_plug 5 (some .boolean))) B.pre
  have hts : ∀ w ∈ lw_all, w.before _ s = true := fun w h => hts w (List.mem_cons_of_mem _ h)
  have hown : s.vm.findClass RX1 = some m.cls := findClass_of_methodNamed B.named
  have hlocks := B.notSynchronized
  subst hsz
  have hD := hD0.self (sz := s.heap.size)
  generalize hAe : va_A (ww_X a d n fW fC fP fX fF fY ol pl cu) s.heap.size = A at hD ⊢
  have hA : ∀ q : Nat, s.heap.size ≤ q → A q := fun q h => by rw [← hAe]; exact Or.inr h
  have hS : va_S A s.heap s.heap [] := va_S.rf
  have hP : va_P D ww_cl (ww_X a d n fW fC fP fX fF fY ol pl cu) s.heap := hP
  have hl := lv_entry ([.ref (a 0), .int r, .int q, .int w, .int k]) (n := 5) (Nat.le_of_ble_eq_true rfl)
  rw [lg_entry_eq]
  generalize (lg_sl ([.ref (a 0), .int r, .int q, .int w, .int k]) ++ List.replicate (5 - (lg_sl ([.ref (a 0), .int r, .int q, .int w, .int k])).length) Slot.unset).toArray = ls at hl ⊢
  have hl : lv_has ls 5 [(0, .ref (a 0)), (1, .int r), (2, .int q), (3, .int w), (4, .int k)] := hl
  refine lv_aload_n hx hb dX1_plug_0 rfl (lv_at hl 0 rfl) ?_
  refine lv_iload_n hx hb dX1_plug_1 rfl (lv_at hl 1 rfl) ?_
  refine lv_iload_n hx hb dX1_plug_2 rfl (lv_at hl 2 rfl) ?_
  refine ww_ro (As := [.int r, .int q]) (rest := []) ⟨hx, hb, hml, hown, hts⟩ hK hP (metX1_isPort l D a d n fW fC fP fX fF fY ol pl cu r q) rfl rfl (cwV 2 hts (lw_V q73 q75 qs0 q19 q76) rfl rfl rfl (by decide +kernel) ⟨Nat.le_of_ble_eq_true rfl, Nat.le_of_ble_eq_true rfl⟩) rfl rfl (Nat.le_of_ble_eq_true rfl) hl.1 ⟨Nat.zero_le _, Nat.zero_le _⟩ dX1_plug_3 (fun r_3 h_3 => ?_)
  have h_3 : r_3 = ww_b2 (ww_isP n r q) := h_3
  subst h_3
  refine ww_if_eqB (tgt := 32) hx hb dX1_plug_6 (by decide) (fun c_6 => ?_) (fun c_6 => ?_)
  · refine lv_iconst (v := nI 0) hx hb dX1_plug_32 (by decide) ?_
    exact W.zret hx hb hret (rfl) (fun t9 ht9 hW9 => ⟨⟨_, (fW, fC, fP, ol, pl), rfl, ⟨(ww_b2_f (fun h => c_6 h.1)).symm, fun h => (show False from c_6 h.1).elim, fun _ => rfl⟩, by show va_P _ _ _ t9.heap; rw [ht9]; exact hP⟩, hS.F ht9⟩) hS.2.2 dX1_plug_33
  · refine lv_iload_n hx hb dX1_plug_9 rfl (lv_at hl 3 rfl) ?_
    refine lv_if_lt (tgt := 32) hx hb dX1_plug_10 (by decide) (fun c_10 => ?_) (fun c_10 => ?_)
    · refine lv_iconst (v := nI 0) hx hb dX1_plug_32 (by decide) ?_
      exact W.zret hx hb hret (rfl) (fun t9 ht9 hW9 => ⟨⟨_, (fW, fC, fP, ol, pl), rfl, ⟨(ww_b2_f (fun h => h.2.1.1 c_10)).symm, fun h => (show False from h.2.1.1 c_10).elim, fun _ => rfl⟩, by show va_P _ _ _ t9.heap; rw [ht9]; exact hP⟩, hS.F ht9⟩) hS.2.2 dX1_plug_33
    · refine lv_iload_n hx hb dX1_plug_13 rfl (lv_at hl 3 rfl) ?_
      refine lv_bipush (v := nI 16) hx hb dX1_plug_14 (by decide) ?_
      refine lv_icmp_ge (tgt := 32) hx hb dX1_plug_16 (by decide) (fun c_16 => ?_) (fun c_16 => ?_)
      · refine lv_iconst (v := nI 0) hx hb dX1_plug_32 (by decide) ?_
        exact W.zret hx hb hret (rfl) (fun t9 ht9 hW9 => ⟨⟨_, (fW, fC, fP, ol, pl), rfl, ⟨(ww_b2_f (fun h => h.2.1.2 c_16)).symm, fun h => (show False from h.2.1.2 c_16).elim, fun _ => rfl⟩, by show va_P _ _ _ t9.heap; rw [ht9]; exact hP⟩, hS.F ht9⟩) hS.2.2 dX1_plug_33
      · refine lv_iload hx hb dX1_plug_19 (lv_at hl 4 rfl) ?_
        refine lv_iconst (v := nI 1) hx hb dX1_plug_21 (by decide) ?_
        refine lv_icmp_lt (tgt := 32) hx hb dX1_plug_22 (by decide) (fun c_22 => ?_) (fun c_22 => ?_)
        · refine lv_iconst (v := nI 0) hx hb dX1_plug_32 (by decide) ?_
          exact W.zret hx hb hret (rfl) (fun t9 ht9 hW9 => ⟨⟨_, (fW, fC, fP, ol, pl), rfl, ⟨(ww_b2_f (fun h => h.2.2.1 c_22)).symm, fun h => (show False from h.2.2.1 c_22).elim, fun _ => rfl⟩, by show va_P _ _ _ t9.heap; rw [ht9]; exact hP⟩, hS.F ht9⟩) hS.2.2 dX1_plug_33
        · refine lv_iload hx hb dX1_plug_25 (lv_at hl 4 rfl) ?_
          refine lv_bipush (v := nI 9) hx hb dX1_plug_27 (by decide) ?_
          refine lv_icmp_le (tgt := 34) hx hb dX1_plug_29 (by decide) (fun c_29 => ?_) (fun c_29 => ?_)
          · obtain ⟨i, hi, rfl⟩ := ww_rng (by omega) c_6.1.1 c_6.1.2
            obtain ⟨j, hj, rfl⟩ := ww_rng (by omega) c_6.2.1 c_6.2.2
            have ei : (nI i).toNatClampNeg = i := nI_clamp (by omega)
            have ej : (nI j).toNatClampNeg = j := nI_clamp (by omega)
            obtain ⟨x, hx9, rfl⟩ := ww_rng (by omega) c_10 c_16
            have ex : (nI x).toNatClampNeg = x := nI_clamp (by omega)
            refine lv_aload_n hx hb dX1_plug_34 rfl (lv_at hl 0 rfl) ?_
            refine ww_gX 1 q37 rfl hx hb hts hown hK hP dX1_plug_35 ?_
            refine lv_iload_n hx hb dX1_plug_38 rfl (lv_at hl 1 rfl) ?_
            refine lv_iconst (v := nI 4) hx hb dX1_plug_39 (by decide) ?_
            refine ww_imulc hx hb dX1_plug_40 ?_
            refine lv_iload_n hx hb dX1_plug_41 rfl (lv_at hl 2 rfl) ?_
            refine ww_iadd hx hb dX1_plug_42 ?_
            refine ww_iald hx hb hK hP 1 0 rfl rfl dX1_plug_43 ?_
            refine lv_iconst (v := -1) hx hb dX1_plug_44 (by decide) ?_
            refine lv_icmp_ne (tgt := 63) hx hb dX1_plug_45 (by decide) (fun c_45 => ?_) (fun c_45 => ?_)
            · refine lv_iconst (v := nI 0) hx hb dX1_plug_63 (by decide) ?_
              exact W.zret hx hb hret (rfl) (fun t9 ht9 hW9 => ⟨⟨_, (fW, fC, fP, ol, pl), rfl, ⟨(ww_b2_f (fun h => c_45 (by have z := h.2.2.2.2.1; rw [ei, ej] at z; exact z))).symm, fun h => (show False from c_45 (by have z := h.2.2.2.2.1; rw [ei, ej] at z; exact z)).elim, fun _ => rfl⟩, by show va_P _ _ _ t9.heap; rw [ht9]; exact hP⟩, hS.F ht9⟩) hS.2.2 dX1_plug_64
            · refine lv_aload_n hx hb dX1_plug_48 rfl (lv_at hl 0 rfl) ?_
              refine ww_gX 3 q39 rfl hx hb hts hown hK hP dX1_plug_49 ?_
              refine lv_iload_n hx hb dX1_plug_52 rfl (lv_at hl 1 rfl) ?_
              refine lv_bipush (v := nI 16) hx hb dX1_plug_53 (by decide) ?_
              refine ww_imulc hx hb dX1_plug_55 ?_
              refine lv_iload_n hx hb dX1_plug_56 rfl (lv_at hl 3 rfl) ?_
              refine ww_iadd hx hb dX1_plug_57 ?_
              refine ww_iald hx hb hK hP 3 2 rfl rfl dX1_plug_58 ?_
              refine lv_iconst (v := -1) hx hb dX1_plug_59 (by decide) ?_
              refine lv_icmp_eq (tgt := 65) hx hb dX1_plug_60 (by decide) (fun c_60 => ?_) (fun c_60 => ?_)
              · refine lv_aload_n hx hb dX1_plug_65 rfl (lv_at hl 0 rfl) ?_
                refine ww_gX 1 q37 rfl hx hb hts hown hK hP dX1_plug_66 ?_
                refine lv_iload_n hx hb dX1_plug_69 rfl (lv_at hl 1 rfl) ?_
                refine lv_iconst (v := nI 4) hx hb dX1_plug_70 (by decide) ?_
                refine ww_imulc hx hb dX1_plug_71 ?_
                refine lv_iload_n hx hb dX1_plug_72 rfl (lv_at hl 2 rfl) ?_
                refine ww_iadd hx hb dX1_plug_73 ?_
                refine lv_iload_n hx hb dX1_plug_74 rfl (lv_at hl 3 rfl) ?_
                refine ww_iast hx hb hK hP hD hS 1 0 rfl rfl dX1_plug_75 (fun H locs hP hD hS => ?_)
                have hP : va_P D ww_cl (ww_X a d n (upd fW ((4 * i) + j) (nI x)) fC fP fX fF fY ol pl cu) H := hP
                have hD : va_D A (ww_X a d n (upd fW ((4 * i) + j) (nI x)) fC fP fX fF fY ol pl cu) := hD
                refine lv_aload_n hx hb dX1_plug_76 rfl (lv_at hl 0 rfl) ?_
                refine ww_gX 2 q38 rfl hx hb hts hown hK hP dX1_plug_77 ?_
                refine lv_iload_n hx hb dX1_plug_80 rfl (lv_at hl 1 rfl) ?_
                refine lv_iconst (v := nI 4) hx hb dX1_plug_81 (by decide) ?_
                refine ww_imulc hx hb dX1_plug_82 ?_
                refine lv_iload_n hx hb dX1_plug_83 rfl (lv_at hl 2 rfl) ?_
                refine ww_iadd hx hb dX1_plug_84 ?_
                refine lv_iload hx hb dX1_plug_85 (lv_at hl 4 rfl) ?_
                refine ww_iast hx hb hK hP hD hS 2 1 rfl rfl dX1_plug_87 (fun H locs hP hD hS => ?_)
                have hP : va_P D ww_cl (ww_X a d n (upd fW ((4 * i) + j) (nI x)) (upd fC ((4 * i) + j) k) fP fX fF fY ol pl cu) H := hP
                have hD : va_D A (ww_X a d n (upd fW ((4 * i) + j) (nI x)) (upd fC ((4 * i) + j) k) fP fX fF fY ol pl cu) := hD
                refine lv_aload_n hx hb dX1_plug_88 rfl (lv_at hl 0 rfl) ?_
                refine ww_gX 3 q39 rfl hx hb hts hown hK hP dX1_plug_89 ?_
                refine lv_iload_n hx hb dX1_plug_92 rfl (lv_at hl 1 rfl) ?_
                refine lv_bipush (v := nI 16) hx hb dX1_plug_93 (by decide) ?_
                refine ww_imulc hx hb dX1_plug_95 ?_
                refine lv_iload_n hx hb dX1_plug_96 rfl (lv_at hl 3 rfl) ?_
                refine ww_iadd hx hb dX1_plug_97 ?_
                refine lv_iload_n hx hb dX1_plug_98 rfl (lv_at hl 2 rfl) ?_
                refine ww_iast hx hb hK hP hD hS 3 2 rfl rfl dX1_plug_99 (fun H locs hP hD hS => ?_)
                have hP : va_P D ww_cl (ww_X a d n (upd fW ((4 * i) + j) (nI x)) (upd fC ((4 * i) + j) k) (upd fP ((16 * i) + x) (nI j)) fX fF fY ol pl cu) H := hP
                have hD : va_D A (ww_X a d n (upd fW ((4 * i) + j) (nI x)) (upd fC ((4 * i) + j) k) (upd fP ((16 * i) + x) (nI j)) fX fF fY ol pl cu) := hD
                refine lv_aload_n hx hb dX1_plug_100 rfl (lv_at hl 0 rfl) ?_
                refine lv_dup hx hb dX1_plug_101 rfl ?_
                refine ww_gX 8 q44 rfl hx hb hts hown hK hP dX1_plug_102 ?_
                refine lv_iconst (v := nI 1) hx hb dX1_plug_105 (by decide) ?_
                refine lv_iadd hx hb dX1_plug_106 ?_
                refine ww_pX 8 q44 hx hb hts hown hK hP hD hS (ty := .int) (by decide +kernel) rfl rfl dX1_plug_107 (fun H locs hP hD hS => ?_)
                have hP : va_P D ww_cl (ww_X a d n (upd fW ((4 * i) + j) (nI x)) (upd fC ((4 * i) + j) k) (upd fP ((16 * i) + x) (nI j)) fX fF fY ol (pl + (nI 1)) cu) H := hP
                have hD : va_D A (ww_X a d n (upd fW ((4 * i) + j) (nI x)) (upd fC ((4 * i) + j) k) (upd fP ((16 * i) + x) (nI j)) fX fF fY ol (pl + (nI 1)) cu) := hD
                refine lv_aload_n hx hb dX1_plug_110 rfl (lv_at hl 0 rfl) ?_
                refine lv_iconst (v := nI 1) hx hb dX1_plug_111 (by decide) ?_
                refine ww_pX 7 q43 hx hb hts hown hK hP hD hS (ty := .boolean) (by decide +kernel) rfl rfl dX1_plug_112 (fun H locs hP hD hS => ?_)
                have hP : va_P D ww_cl (ww_X a d n (upd fW ((4 * i) + j) (nI x)) (upd fC ((4 * i) + j) k) (upd fP ((16 * i) + x) (nI j)) fX fF fY (nI 1) (pl + (nI 1)) cu) H := hP
                have hD : va_D A (ww_X a d n (upd fW ((4 * i) + j) (nI x)) (upd fC ((4 * i) + j) k) (upd fP ((16 * i) + x) (nI j)) fX fF fY (nI 1) (pl + (nI 1)) cu) := hD
                refine lv_iconst (v := nI 1) hx hb dX1_plug_115 (by decide) ?_
                exact W.zret hx hb hret (rfl) (fun t9 ht9 hW9 => ⟨⟨_, (upd fW ((4 * i) + j) (nI x), upd fC ((4 * i) + j) k, upd fP ((16 * i) + x) (nI j), nI 1, pl + nI 1), rfl, ⟨(ww_b2_t ⟨⟨⟨nI_pos (by omega), nI_ge hi (by omega)⟩, nI_pos (by omega), nI_ge hj (by omega)⟩, ⟨nI_pos (by omega), nI_ge hx9 (by omega)⟩, c_22, c_29, by rw [ei, ej]; exact c_45, by rw [ei, ← hp i x (by omega) (by omega)]; exact c_60⟩).symm, fun _ => by rw [ei, ej, ex], fun h => absurd ⟨⟨⟨nI_pos (by omega), nI_ge hi (by omega)⟩, nI_pos (by omega), nI_ge hj (by omega)⟩, ⟨nI_pos (by omega), nI_ge hx9 (by omega)⟩, c_22, c_29, by rw [ei, ej]; exact c_45, by rw [ei, ← hp i x (by omega) (by omega)]; exact c_60⟩ h⟩, by show va_P _ _ _ t9.heap; rw [ht9]; exact hP⟩, hS.F ht9⟩) hS.2.2 dX1_plug_116
              · refine lv_iconst (v := nI 0) hx hb dX1_plug_63 (by decide) ?_
                exact W.zret hx hb hret (rfl) (fun t9 ht9 hW9 => ⟨⟨_, (fW, fC, fP, ol, pl), rfl, ⟨(ww_b2_f (fun h => c_60 (by have z := h.2.2.2.2.2; rw [ei, ← hp i x (by omega) (by omega)] at z; exact z))).symm, fun h => (show False from c_60 (by have z := h.2.2.2.2.2; rw [ei, ← hp i x (by omega) (by omega)] at z; exact z)).elim, fun _ => rfl⟩, by show va_P _ _ _ t9.heap; rw [ht9]; exact hP⟩, hS.F ht9⟩) hS.2.2 dX1_plug_64
          · refine lv_iconst (v := nI 0) hx hb dX1_plug_32 (by decide) ?_
            exact W.zret hx hb hret (rfl) (fun t9 ht9 hW9 => ⟨⟨_, (fW, fC, fP, ol, pl), rfl, ⟨(ww_b2_f (fun h => c_29 h.2.2.2.1)).symm, fun h => (show False from c_29 h.2.2.2.1).elim, fun _ => rfl⟩, by show va_P _ _ _ t9.heap; rw [ht9]; exact hP⟩, hS.F ht9⟩) hS.2.2 dX1_plug_33
set_option maxHeartbeats 4000000 in
set_option maxRecDepth 100000 in
theorem metX1_draw (l : Launch) (D : va_G) (a : Nat → Nat) (d : Nat → ClassId) (n : Nat) (fW fC fP fX fF fY : Nat → Int32) (ol pl cu : Int32) (sz : Nat) (r q : Int32) (hn : n ≤ 10) (hN : ww_net fW fC fX) : Met l yX1_draw (ws_ yX1_draw cX1_draw 3 (some .boolean)) ({ frames := 1, cells := 0, slots := 0, locals := 22 }) (va_Pc [.ref (a 0), .int r, .int q] (ww_C D (ww_tX d) (ww_X a d n fW fC fP fX fF fY ol pl cu) sz)) (va_Qi (fun (v : Int32) (u : (Nat → Int32) × (Nat → Int32) × Int32 × Int32) => v = ww_b2 (ww_okd n fW r q) ∧ (ww_okd n fW r q → u = (upd fW (4 * r.toNatClampNeg + q.toNatClampNeg) (-1), upd fP (16 * r.toNatClampNeg + (fW (4 * r.toNatClampNeg + q.toNatClampNeg)).toNatClampNeg) (-1), nI 1, pl - nI 1)) ∧ (¬ (ww_okd n fW r q) → u = (fW, fP, ol, pl))) (fun (u : (Nat → Int32) × (Nat → Int32) × Int32 × Int32) t => va_P D ww_cl (ww_X a d n u.1 fC u.2.1 fX fF fY u.2.2.1 u.2.2.2 cu) t.heap) (va_A (ww_X a d n fW fC fP fX fF fY ol pl cu) sz)) 0 0 (va_A (ww_X a d n fW fC fP fX fF fY ol pl cu) sz) := by
  refine Met.ofW (cc := cX1_draw) (maxL := 3) (ret := (some .boolean)) (by decide) rfl ?_
  intro pr e s m args below meth c s₁ B hml hv
  obtain ⟨rfl, hsz, hP, hK, hD0⟩ := hv
  have hx := B.exec
  have hb := B.bytes
  have hret := B.returns
  have hts := atoms_spec (ws := (ws_ yX1_draw cX1_draw 3 (some .boolean))) B.pre
  have hts : ∀ w ∈ lw_all, w.before _ s = true := fun w h => hts w (List.mem_cons_of_mem _ h)
  have hown : s.vm.findClass RX1 = some m.cls := findClass_of_methodNamed B.named
  have hlocks := B.notSynchronized
  subst hsz
  have hD := hD0.self (sz := s.heap.size)
  generalize hAe : va_A (ww_X a d n fW fC fP fX fF fY ol pl cu) s.heap.size = A at hD ⊢
  have hA : ∀ q : Nat, s.heap.size ≤ q → A q := fun q h => by rw [← hAe]; exact Or.inr h
  have hS : va_S A s.heap s.heap [] := va_S.rf
  have hP : va_P D ww_cl (ww_X a d n fW fC fP fX fF fY ol pl cu) s.heap := hP
  have hl := lv_entry ([.ref (a 0), .int r, .int q]) (n := 3) (Nat.le_of_ble_eq_true rfl)
  rw [lg_entry_eq]
  generalize (lg_sl ([.ref (a 0), .int r, .int q]) ++ List.replicate (3 - (lg_sl ([.ref (a 0), .int r, .int q])).length) Slot.unset).toArray = ls at hl ⊢
  have hl : lv_has ls 3 [(0, .ref (a 0)), (1, .int r), (2, .int q)] := hl
  refine lv_aload_n hx hb dX1_draw_0 rfl (lv_at hl 0 rfl) ?_
  refine lv_iload_n hx hb dX1_draw_1 rfl (lv_at hl 1 rfl) ?_
  refine lv_iload_n hx hb dX1_draw_2 rfl (lv_at hl 2 rfl) ?_
  refine ww_ro (As := [.int r, .int q]) (rest := []) ⟨hx, hb, hml, hown, hts⟩ hK hP (metX1_isPort l D a d n fW fC fP fX fF fY ol pl cu r q) rfl rfl (cwV 2 hts (lw_V q73 q75 qs0 q19 q76) rfl rfl rfl (by decide +kernel) ⟨Nat.le_of_ble_eq_true rfl, Nat.le_of_ble_eq_true rfl⟩) rfl rfl (Nat.le_of_ble_eq_true rfl) hl.1 ⟨Nat.zero_le _, Nat.zero_le _⟩ dX1_draw_3 (fun r_3 h_3 => ?_)
  have h_3 : r_3 = ww_b2 (ww_isP n r q) := h_3
  subst h_3
  refine ww_if_eqB (tgt := 23) hx hb dX1_draw_6 (by decide) (fun c_6 => ?_) (fun c_6 => ?_)
  · refine lv_iconst (v := nI 0) hx hb dX1_draw_23 (by decide) ?_
    exact W.zret hx hb hret (rfl) (fun t9 ht9 hW9 => ⟨⟨_, (fW, fP, ol, pl), rfl, ⟨(ww_b2_f (fun h => c_6 h.1)).symm, fun h => (show False from c_6 h.1).elim, fun _ => rfl⟩, by show va_P _ _ _ t9.heap; rw [ht9]; exact hP⟩, hS.F ht9⟩) hS.2.2 dX1_draw_24
  · obtain ⟨i, hi, rfl⟩ := ww_rng (by omega) c_6.1.1 c_6.1.2
    obtain ⟨j, hj, rfl⟩ := ww_rng (by omega) c_6.2.1 c_6.2.2
    have ei : (nI i).toNatClampNeg = i := nI_clamp (by omega)
    have ej : (nI j).toNatClampNeg = j := nI_clamp (by omega)
    refine lv_aload_n hx hb dX1_draw_9 rfl (lv_at hl 0 rfl) ?_
    refine ww_gX 1 q37 rfl hx hb hts hown hK hP dX1_draw_10 ?_
    refine lv_iload_n hx hb dX1_draw_13 rfl (lv_at hl 1 rfl) ?_
    refine lv_iconst (v := nI 4) hx hb dX1_draw_14 (by decide) ?_
    refine ww_imulc hx hb dX1_draw_15 ?_
    refine lv_iload_n hx hb dX1_draw_16 rfl (lv_at hl 2 rfl) ?_
    refine ww_iadd hx hb dX1_draw_17 ?_
    refine ww_iald hx hb hK hP 1 0 rfl rfl dX1_draw_18 ?_
    refine lv_iconst (v := -1) hx hb dX1_draw_19 (by decide) ?_
    refine lv_icmp_ne (tgt := 25) hx hb dX1_draw_20 (by decide) (fun c_20 => ?_) (fun c_20 => ?_)
    · obtain ⟨x, hx9, ew⟩ := ww_net_w hN hn hi hj c_20
      refine lv_aload_n hx hb dX1_draw_25 rfl (lv_at hl 0 rfl) ?_
      refine ww_gX 3 q39 rfl hx hb hts hown hK hP dX1_draw_26 ?_
      refine lv_iload_n hx hb dX1_draw_29 rfl (lv_at hl 1 rfl) ?_
      refine lv_bipush (v := nI 16) hx hb dX1_draw_30 (by decide) ?_
      refine ww_imulc hx hb dX1_draw_32 ?_
      refine lv_aload_n hx hb dX1_draw_33 rfl (lv_at hl 0 rfl) ?_
      refine ww_gX 1 q37 rfl hx hb hts hown hK hP dX1_draw_34 ?_
      refine lv_iload_n hx hb dX1_draw_37 rfl (lv_at hl 1 rfl) ?_
      refine lv_iconst (v := nI 4) hx hb dX1_draw_38 (by decide) ?_
      refine ww_imulc hx hb dX1_draw_39 ?_
      refine lv_iload_n hx hb dX1_draw_40 rfl (lv_at hl 2 rfl) ?_
      refine ww_iadd hx hb dX1_draw_41 ?_
      refine ww_iald hx hb hK hP 1 0 rfl rfl dX1_draw_42 ?_
      refine ww_top (ew) ?_
      refine ww_iadd hx hb dX1_draw_43 ?_
      refine lv_iconst (v := -1) hx hb dX1_draw_44 (by decide) ?_
      refine ww_iast hx hb hK hP hD hS 3 2 rfl rfl dX1_draw_45 (fun H locs hP hD hS => ?_)
      have hP : va_P D ww_cl (ww_X a d n fW fC (upd fP ((16 * i) + x) (-1)) fX fF fY ol pl cu) H := hP
      have hD : va_D A (ww_X a d n fW fC (upd fP ((16 * i) + x) (-1)) fX fF fY ol pl cu) := hD
      refine lv_aload_n hx hb dX1_draw_46 rfl (lv_at hl 0 rfl) ?_
      refine ww_gX 1 q37 rfl hx hb hts hown hK hP dX1_draw_47 ?_
      refine lv_iload_n hx hb dX1_draw_50 rfl (lv_at hl 1 rfl) ?_
      refine lv_iconst (v := nI 4) hx hb dX1_draw_51 (by decide) ?_
      refine ww_imulc hx hb dX1_draw_52 ?_
      refine lv_iload_n hx hb dX1_draw_53 rfl (lv_at hl 2 rfl) ?_
      refine ww_iadd hx hb dX1_draw_54 ?_
      refine lv_iconst (v := -1) hx hb dX1_draw_55 (by decide) ?_
      refine ww_iast hx hb hK hP hD hS 1 0 rfl rfl dX1_draw_56 (fun H locs hP hD hS => ?_)
      have hP : va_P D ww_cl (ww_X a d n (upd fW ((4 * i) + j) (-1)) fC (upd fP ((16 * i) + x) (-1)) fX fF fY ol pl cu) H := hP
      have hD : va_D A (ww_X a d n (upd fW ((4 * i) + j) (-1)) fC (upd fP ((16 * i) + x) (-1)) fX fF fY ol pl cu) := hD
      refine lv_aload_n hx hb dX1_draw_57 rfl (lv_at hl 0 rfl) ?_
      refine lv_dup hx hb dX1_draw_58 rfl ?_
      refine ww_gX 8 q44 rfl hx hb hts hown hK hP dX1_draw_59 ?_
      refine lv_iconst (v := nI 1) hx hb dX1_draw_62 (by decide) ?_
      refine lv_isub hx hb dX1_draw_63 ?_
      refine ww_pX 8 q44 hx hb hts hown hK hP hD hS (ty := .int) (by decide +kernel) rfl rfl dX1_draw_64 (fun H locs hP hD hS => ?_)
      have hP : va_P D ww_cl (ww_X a d n (upd fW ((4 * i) + j) (-1)) fC (upd fP ((16 * i) + x) (-1)) fX fF fY ol (pl - (nI 1)) cu) H := hP
      have hD : va_D A (ww_X a d n (upd fW ((4 * i) + j) (-1)) fC (upd fP ((16 * i) + x) (-1)) fX fF fY ol (pl - (nI 1)) cu) := hD
      refine lv_aload_n hx hb dX1_draw_67 rfl (lv_at hl 0 rfl) ?_
      refine lv_iconst (v := nI 1) hx hb dX1_draw_68 (by decide) ?_
      refine ww_pX 7 q43 hx hb hts hown hK hP hD hS (ty := .boolean) (by decide +kernel) rfl rfl dX1_draw_69 (fun H locs hP hD hS => ?_)
      have hP : va_P D ww_cl (ww_X a d n (upd fW ((4 * i) + j) (-1)) fC (upd fP ((16 * i) + x) (-1)) fX fF fY (nI 1) (pl - (nI 1)) cu) H := hP
      have hD : va_D A (ww_X a d n (upd fW ((4 * i) + j) (-1)) fC (upd fP ((16 * i) + x) (-1)) fX fF fY (nI 1) (pl - (nI 1)) cu) := hD
      refine lv_iconst (v := nI 1) hx hb dX1_draw_72 (by decide) ?_
      exact W.zret hx hb hret (rfl) (fun t9 ht9 hW9 => ⟨⟨_, (upd fW ((4 * i) + j) (-1), upd fP ((16 * i) + x) (-1), nI 1, pl - nI 1), rfl, ⟨(ww_b2_t ⟨⟨⟨nI_pos (by omega), nI_ge hi (by omega)⟩, nI_pos (by omega), nI_ge hj (by omega)⟩, by rw [ei, ej]; exact c_20⟩).symm, fun _ => by rw [ei, ej, ew, nI_clamp (by omega)], fun h => absurd ⟨⟨⟨nI_pos (by omega), nI_ge hi (by omega)⟩, nI_pos (by omega), nI_ge hj (by omega)⟩, by rw [ei, ej]; exact c_20⟩ h⟩, by show va_P _ _ _ t9.heap; rw [ht9]; exact hP⟩, hS.F ht9⟩) hS.2.2 dX1_draw_73
    · refine lv_iconst (v := nI 0) hx hb dX1_draw_23 (by decide) ?_
      exact W.zret hx hb hret (rfl) (fun t9 ht9 hW9 => ⟨⟨_, (fW, fP, ol, pl), rfl, ⟨(ww_b2_f (fun h => h.2 (by rw [ei, ej]; exact c_20))).symm, fun h => (show False from h.2 (by rw [ei, ej]; exact c_20)).elim, fun _ => rfl⟩, by show va_P _ _ _ t9.heap; rw [ht9]; exact hP⟩, hS.F ht9⟩) hS.2.2 dX1_draw_24
set_option maxHeartbeats 4000000 in
set_option maxRecDepth 100000 in
theorem metX1_cost (l : Launch) (D : va_G) (a : Nat → Nat) (d : Nat → ClassId) (n : Nat) (fW fC fP fX fF fY : Nat → Int32) (ol pl cu : Int32) (sz : Nat) (r q k : Int32) (hn : n ≤ 10) : Met l yX1_cost (ws_ yX1_cost cX1_cost 5 (some .int)) ({ frames := 1, cells := 0, slots := 0, locals := 22 }) (va_Pc [.ref (a 0), .int r, .int q, .int k] (ww_C D (ww_tX d) (ww_X a d n fW fC fP fX fF fY ol pl cu) sz)) (va_Qi (fun (v : Int32) (u : (Nat → Int32) × Int32) => (ww_okc n fW r q k → v = fC (4 * r.toNatClampNeg + q.toNatClampNeg) ∧ u = (upd fC (4 * r.toNatClampNeg + q.toNatClampNeg) k, nI 1)) ∧ (¬ (ww_okc n fW r q k) → v = -1 ∧ u = (fC, ol))) (fun (u : (Nat → Int32) × Int32) t => va_P D ww_cl (ww_X a d n fW u.1 fP fX fF fY u.2 pl cu) t.heap) (va_A (ww_X a d n fW fC fP fX fF fY ol pl cu) sz)) 0 0 (va_A (ww_X a d n fW fC fP fX fF fY ol pl cu) sz) := by
  refine Met.ofW (cc := cX1_cost) (maxL := 5) (ret := (some .int)) (by decide) rfl ?_
  intro pr e s m args below meth c s₁ B hml hv
  obtain ⟨rfl, hsz, hP, hK, hD0⟩ := hv
  have hx := B.exec
  have hb := B.bytes
  have hret := B.returns
  have hts := atoms_spec (ws := (ws_ yX1_cost cX1_cost 5 (some .int))) B.pre
  have hts : ∀ w ∈ lw_all, w.before _ s = true := fun w h => hts w (List.mem_cons_of_mem _ h)
  have hown : s.vm.findClass RX1 = some m.cls := findClass_of_methodNamed B.named
  have hlocks := B.notSynchronized
  subst hsz
  have hD := hD0.self (sz := s.heap.size)
  generalize hAe : va_A (ww_X a d n fW fC fP fX fF fY ol pl cu) s.heap.size = A at hD ⊢
  have hA : ∀ q : Nat, s.heap.size ≤ q → A q := fun q h => by rw [← hAe]; exact Or.inr h
  have hS : va_S A s.heap s.heap [] := va_S.rf
  have hP : va_P D ww_cl (ww_X a d n fW fC fP fX fF fY ol pl cu) s.heap := hP
  have hl := lv_entry ([.ref (a 0), .int r, .int q, .int k]) (n := 5) (Nat.le_of_ble_eq_true rfl)
  rw [lg_entry_eq]
  generalize (lg_sl ([.ref (a 0), .int r, .int q, .int k]) ++ List.replicate (5 - (lg_sl ([.ref (a 0), .int r, .int q, .int k])).length) Slot.unset).toArray = ls at hl ⊢
  have hl : lv_has ls 5 [(0, .ref (a 0)), (1, .int r), (2, .int q), (3, .int k)] := hl
  refine lv_aload_n hx hb dX1_cost_0 rfl (lv_at hl 0 rfl) ?_
  refine lv_iload_n hx hb dX1_cost_1 rfl (lv_at hl 1 rfl) ?_
  refine lv_iload_n hx hb dX1_cost_2 rfl (lv_at hl 2 rfl) ?_
  refine ww_ro (As := [.int r, .int q]) (rest := []) ⟨hx, hb, hml, hown, hts⟩ hK hP (metX1_isPort l D a d n fW fC fP fX fF fY ol pl cu r q) rfl rfl (cwV 2 hts (lw_V q73 q75 qs0 q19 q76) rfl rfl rfl (by decide +kernel) ⟨Nat.le_of_ble_eq_true rfl, Nat.le_of_ble_eq_true rfl⟩) rfl rfl (Nat.le_of_ble_eq_true rfl) hl.1 ⟨Nat.zero_le _, Nat.zero_le _⟩ dX1_cost_3 (fun r_3 h_3 => ?_)
  have h_3 : r_3 = ww_b2 (ww_isP n r q) := h_3
  subst h_3
  refine ww_if_eqB (tgt := 34) hx hb dX1_cost_6 (by decide) (fun c_6 => ?_) (fun c_6 => ?_)
  · refine lv_iconst (v := -1) hx hb dX1_cost_34 (by decide) ?_
    exact W.iret hx hb hret (fun t9 ht9 hW9 => ⟨⟨_, (fC, ol), rfl, ⟨fun h => (show False from c_6 h.1).elim, fun _ => ⟨rfl, rfl⟩⟩, by show va_P _ _ _ t9.heap; rw [ht9]; exact hP⟩, hS.F ht9⟩) hS.2.2 dX1_cost_35
  · obtain ⟨i, hi, rfl⟩ := ww_rng (by omega) c_6.1.1 c_6.1.2
    obtain ⟨j, hj, rfl⟩ := ww_rng (by omega) c_6.2.1 c_6.2.2
    have ei : (nI i).toNatClampNeg = i := nI_clamp (by omega)
    have ej : (nI j).toNatClampNeg = j := nI_clamp (by omega)
    refine lv_aload_n hx hb dX1_cost_9 rfl (lv_at hl 0 rfl) ?_
    refine ww_gX 1 q37 rfl hx hb hts hown hK hP dX1_cost_10 ?_
    refine lv_iload_n hx hb dX1_cost_13 rfl (lv_at hl 1 rfl) ?_
    refine lv_iconst (v := nI 4) hx hb dX1_cost_14 (by decide) ?_
    refine ww_imulc hx hb dX1_cost_15 ?_
    refine lv_iload_n hx hb dX1_cost_16 rfl (lv_at hl 2 rfl) ?_
    refine ww_iadd hx hb dX1_cost_17 ?_
    refine ww_iald hx hb hK hP 1 0 rfl rfl dX1_cost_18 ?_
    refine lv_iconst (v := -1) hx hb dX1_cost_19 (by decide) ?_
    refine lv_icmp_eq (tgt := 34) hx hb dX1_cost_20 (by decide) (fun c_20 => ?_) (fun c_20 => ?_)
    · refine lv_iconst (v := -1) hx hb dX1_cost_34 (by decide) ?_
      exact W.iret hx hb hret (fun t9 ht9 hW9 => ⟨⟨_, (fC, ol), rfl, ⟨fun h => (show False from h.2.1 (by rw [ei, ej]; exact c_20)).elim, fun _ => ⟨rfl, rfl⟩⟩, by show va_P _ _ _ t9.heap; rw [ht9]; exact hP⟩, hS.F ht9⟩) hS.2.2 dX1_cost_35
    · refine lv_iload_n hx hb dX1_cost_23 rfl (lv_at hl 3 rfl) ?_
      refine lv_iconst (v := nI 1) hx hb dX1_cost_24 (by decide) ?_
      refine lv_icmp_lt (tgt := 34) hx hb dX1_cost_25 (by decide) (fun c_25 => ?_) (fun c_25 => ?_)
      · refine lv_iconst (v := -1) hx hb dX1_cost_34 (by decide) ?_
        exact W.iret hx hb hret (fun t9 ht9 hW9 => ⟨⟨_, (fC, ol), rfl, ⟨fun h => (show False from h.2.2.1 c_25).elim, fun _ => ⟨rfl, rfl⟩⟩, by show va_P _ _ _ t9.heap; rw [ht9]; exact hP⟩, hS.F ht9⟩) hS.2.2 dX1_cost_35
      · refine lv_iload_n hx hb dX1_cost_28 rfl (lv_at hl 3 rfl) ?_
        refine lv_bipush (v := nI 9) hx hb dX1_cost_29 (by decide) ?_
        refine lv_icmp_le (tgt := 36) hx hb dX1_cost_31 (by decide) (fun c_31 => ?_) (fun c_31 => ?_)
        · refine lv_aload_n hx hb dX1_cost_36 rfl (lv_at hl 0 rfl) ?_
          refine ww_gX 2 q38 rfl hx hb hts hown hK hP dX1_cost_37 ?_
          refine lv_iload_n hx hb dX1_cost_40 rfl (lv_at hl 1 rfl) ?_
          refine lv_iconst (v := nI 4) hx hb dX1_cost_41 (by decide) ?_
          refine ww_imulc hx hb dX1_cost_42 ?_
          refine lv_iload_n hx hb dX1_cost_43 rfl (lv_at hl 2 rfl) ?_
          refine ww_iadd hx hb dX1_cost_44 ?_
          refine ww_iald hx hb hK hP 2 1 rfl rfl dX1_cost_45 ?_
          refine lv_istore (lv' := [(4, .int (fC ((4 * i) + j))), (0, .ref (a 0)), (1, .int (nI i)), (2, .int (nI j)), (3, .int k)]) hx hb dX1_cost_46 hl (by decide) rfl (fun ls hl => ?_)
          refine lv_aload_n hx hb dX1_cost_48 rfl (lv_at hl 1 rfl) ?_
          refine ww_gX 2 q38 rfl hx hb hts hown hK hP dX1_cost_49 ?_
          refine lv_iload_n hx hb dX1_cost_52 rfl (lv_at hl 2 rfl) ?_
          refine lv_iconst (v := nI 4) hx hb dX1_cost_53 (by decide) ?_
          refine ww_imulc hx hb dX1_cost_54 ?_
          refine lv_iload_n hx hb dX1_cost_55 rfl (lv_at hl 3 rfl) ?_
          refine ww_iadd hx hb dX1_cost_56 ?_
          refine lv_iload_n hx hb dX1_cost_57 rfl (lv_at hl 4 rfl) ?_
          refine ww_iast hx hb hK hP hD hS 2 1 rfl rfl dX1_cost_58 (fun H locs hP hD hS => ?_)
          have hP : va_P D ww_cl (ww_X a d n fW (upd fC ((4 * i) + j) k) fP fX fF fY ol pl cu) H := hP
          have hD : va_D A (ww_X a d n fW (upd fC ((4 * i) + j) k) fP fX fF fY ol pl cu) := hD
          refine lv_aload_n hx hb dX1_cost_59 rfl (lv_at hl 1 rfl) ?_
          refine lv_iconst (v := nI 1) hx hb dX1_cost_60 (by decide) ?_
          refine ww_pX 7 q43 hx hb hts hown hK hP hD hS (ty := .boolean) (by decide +kernel) rfl rfl dX1_cost_61 (fun H locs hP hD hS => ?_)
          have hP : va_P D ww_cl (ww_X a d n fW (upd fC ((4 * i) + j) k) fP fX fF fY (nI 1) pl cu) H := hP
          have hD : va_D A (ww_X a d n fW (upd fC ((4 * i) + j) k) fP fX fF fY (nI 1) pl cu) := hD
          refine lv_iload hx hb dX1_cost_64 (lv_at hl 0 rfl) ?_
          exact W.iret hx hb hret (fun t9 ht9 hW9 => ⟨⟨_, (upd fC ((4 * i) + j) k, nI 1), rfl, ⟨fun _ => ⟨by rw [ei, ej], by rw [ei, ej]⟩, fun h => absurd ⟨⟨⟨nI_pos (by omega), nI_ge hi (by omega)⟩, nI_pos (by omega), nI_ge hj (by omega)⟩, by rw [ei, ej]; exact c_20, c_25, c_31⟩ h⟩, by show va_P _ _ _ t9.heap; rw [ht9]; exact hP⟩, hS.F ht9⟩) hS.2.2 dX1_cost_66
        · refine lv_iconst (v := -1) hx hb dX1_cost_34 (by decide) ?_
          exact W.iret hx hb hret (fun t9 ht9 hW9 => ⟨⟨_, (fC, ol), rfl, ⟨fun h => (show False from c_31 h.2.2.2).elim, fun _ => ⟨rfl, rfl⟩⟩, by show va_P _ _ _ t9.heap; rw [ht9]; exact hP⟩, hS.F ht9⟩) hS.2.2 dX1_cost_35
set_option maxHeartbeats 4000000 in
set_option maxRecDepth 100000 in
theorem metX1_turn1 (l : Launch) (D : va_G) (a : Nat → Nat) (d : Nat → ClassId) (n : Nat) (fW fC fP fX fF fY : Nat → Int32) (ol pl cu : Int32) (sz : Nat) (w : Int32) : Met l yX1_turn (ws_ yX1_turn cX1_turn 3 (some .boolean)) ({ frames := 0, cells := 0, slots := 0, locals := 0 }) (va_Pc [.ref (a 0), .int w, .int (nI 1)] (ww_C D (ww_tX d) (ww_X a d n fW fC fP fX fF fY ol pl cu) sz)) (va_Qi (fun (v : Int32) (u : (Nat → Int32) × Int32 × Int32) => v = ww_b2 ((ww_isW w ∧ ¬ fX w.toNatClampNeg = nI 1)) ∧ ((ww_isW w ∧ ¬ fX w.toNatClampNeg = nI 1) → u = (upd fX w.toNatClampNeg (nI 1), nI 1, cu + nI 1)) ∧ (¬ ((ww_isW w ∧ ¬ fX w.toNatClampNeg = nI 1)) → u = (fX, ol, cu))) (fun (u : (Nat → Int32) × Int32 × Int32) t => va_P D ww_cl (ww_X a d n fW fC fP u.1 fF fY u.2.1 pl u.2.2) t.heap) (va_A (ww_X a d n fW fC fP fX fF fY ol pl cu) sz)) 0 0 (va_A (ww_X a d n fW fC fP fX fF fY ol pl cu) sz) := by
  refine Met.ofW (cc := cX1_turn) (maxL := 3) (ret := (some .boolean)) (by decide) rfl ?_
  intro pr e s m args below meth c s₁ B hml hv
  obtain ⟨rfl, hsz, hP, hK, hD0⟩ := hv
  have hx := B.exec
  have hb := B.bytes
  have hret := B.returns
  have hts := atoms_spec (ws := (ws_ yX1_turn cX1_turn 3 (some .boolean))) B.pre
  have hts : ∀ w ∈ lw_all, w.before _ s = true := fun w h => hts w (List.mem_cons_of_mem _ h)
  have hown : s.vm.findClass RX1 = some m.cls := findClass_of_methodNamed B.named
  have hlocks := B.notSynchronized
  subst hsz
  have hD := hD0.self (sz := s.heap.size)
  generalize hAe : va_A (ww_X a d n fW fC fP fX fF fY ol pl cu) s.heap.size = A at hD ⊢
  have hA : ∀ q : Nat, s.heap.size ≤ q → A q := fun q h => by rw [← hAe]; exact Or.inr h
  have hS : va_S A s.heap s.heap [] := va_S.rf
  have hP : va_P D ww_cl (ww_X a d n fW fC fP fX fF fY ol pl cu) s.heap := hP
  have hl := lv_entry ([.ref (a 0), .int w, .int (nI 1)]) (n := 3) (Nat.le_of_ble_eq_true rfl)
  rw [lg_entry_eq]
  generalize (lg_sl ([.ref (a 0), .int w, .int (nI 1)]) ++ List.replicate (3 - (lg_sl ([.ref (a 0), .int w, .int (nI 1)])).length) Slot.unset).toArray = ls at hl ⊢
  have hl : lv_has ls 3 [(0, .ref (a 0)), (1, .int w), (2, .int (nI 1))] := hl
  refine lv_iload_n hx hb dX1_turn_0 rfl (lv_at hl 1 rfl) ?_
  refine lv_if_lt (tgt := 20) hx hb dX1_turn_1 (by decide) (fun c_1 => ?_) (fun c_1 => ?_)
  · refine lv_iconst (v := nI 0) hx hb dX1_turn_20 (by decide) ?_
    exact W.zret hx hb hret (rfl) (fun t9 ht9 hW9 => ⟨⟨_, (fX, ol, cu), rfl, ⟨(ww_b2_f (fun h => h.1.1 c_1)).symm, fun h => (show False from h.1.1 c_1).elim, fun _ => rfl⟩, by show va_P _ _ _ t9.heap; rw [ht9]; exact hP⟩, hS.F ht9⟩) hS.2.2 dX1_turn_21
  · refine lv_iload_n hx hb dX1_turn_4 rfl (lv_at hl 1 rfl) ?_
    refine lv_bipush (v := nI 16) hx hb dX1_turn_5 (by decide) ?_
    refine lv_icmp_ge (tgt := 20) hx hb dX1_turn_7 (by decide) (fun c_7 => ?_) (fun c_7 => ?_)
    · refine lv_iconst (v := nI 0) hx hb dX1_turn_20 (by decide) ?_
      exact W.zret hx hb hret (rfl) (fun t9 ht9 hW9 => ⟨⟨_, (fX, ol, cu), rfl, ⟨(ww_b2_f (fun h => h.1.2 c_7)).symm, fun h => (show False from h.1.2 c_7).elim, fun _ => rfl⟩, by show va_P _ _ _ t9.heap; rw [ht9]; exact hP⟩, hS.F ht9⟩) hS.2.2 dX1_turn_21
    · obtain ⟨x, hx9, rfl⟩ := ww_rng (by omega) c_1 c_7
      have ex : (nI x).toNatClampNeg = x := nI_clamp (by omega)
      refine lv_aload_n hx hb dX1_turn_10 rfl (lv_at hl 0 rfl) ?_
      refine ww_gX 4 q40 rfl hx hb hts hown hK hP dX1_turn_11 ?_
      refine lv_iload_n hx hb dX1_turn_14 rfl (lv_at hl 1 rfl) ?_
      refine ww_zald hx hb hK hP 4 3 rfl rfl dX1_turn_15 ?_
      refine lv_iload_n hx hb dX1_turn_16 rfl (lv_at hl 2 rfl) ?_
      refine lv_icmp_ne (tgt := 22) hx hb dX1_turn_17 (by decide) (fun c_17 => ?_) (fun c_17 => ?_)
      · refine lv_aload_n hx hb dX1_turn_22 rfl (lv_at hl 0 rfl) ?_
        refine ww_gX 4 q40 rfl hx hb hts hown hK hP dX1_turn_23 ?_
        refine lv_iload_n hx hb dX1_turn_26 rfl (lv_at hl 1 rfl) ?_
        refine lv_iload_n hx hb dX1_turn_27 rfl (lv_at hl 2 rfl) ?_
        refine ww_zast hx hb hK hP hD hS 4 3 rfl rfl rfl dX1_turn_28 (fun H locs hP hD hS => ?_)
        have hP : va_P D ww_cl (ww_X a d n fW fC fP (upd fX x (nI 1)) fF fY ol pl cu) H := hP
        have hD : va_D A (ww_X a d n fW fC fP (upd fX x (nI 1)) fF fY ol pl cu) := hD
        refine lv_aload_n hx hb dX1_turn_29 rfl (lv_at hl 0 rfl) ?_
        refine lv_dup hx hb dX1_turn_30 rfl ?_
        refine ww_gX 9 q45 rfl hx hb hts hown hK hP dX1_turn_31 ?_
        refine lv_iload_n hx hb dX1_turn_34 rfl (lv_at hl 2 rfl) ?_
        refine ww_if_eq (tgt := 42) hx hb dX1_turn_35 (by decide) (fun c_35 => ?_) (fun c_35 => ?_)
        · exact absurd c_35 (by decide)
        · refine lv_iconst (v := nI 1) hx hb dX1_turn_38 (by decide) ?_
          refine lv_goto (tgt := 43) hx hb dX1_turn_39 (by decide) ?_
          refine lv_iadd hx hb dX1_turn_43 ?_
          refine ww_pX 9 q45 hx hb hts hown hK hP hD hS (ty := .int) (by decide +kernel) rfl rfl dX1_turn_44 (fun H locs hP hD hS => ?_)
          have hP : va_P D ww_cl (ww_X a d n fW fC fP (upd fX x (nI 1)) fF fY ol pl (cu + (nI 1))) H := hP
          have hD : va_D A (ww_X a d n fW fC fP (upd fX x (nI 1)) fF fY ol pl (cu + (nI 1))) := hD
          refine lv_aload_n hx hb dX1_turn_47 rfl (lv_at hl 0 rfl) ?_
          refine lv_iconst (v := nI 1) hx hb dX1_turn_48 (by decide) ?_
          refine ww_pX 7 q43 hx hb hts hown hK hP hD hS (ty := .boolean) (by decide +kernel) rfl rfl dX1_turn_49 (fun H locs hP hD hS => ?_)
          have hP : va_P D ww_cl (ww_X a d n fW fC fP (upd fX x (nI 1)) fF fY (nI 1) pl (cu + (nI 1))) H := hP
          have hD : va_D A (ww_X a d n fW fC fP (upd fX x (nI 1)) fF fY (nI 1) pl (cu + (nI 1))) := hD
          refine lv_iconst (v := nI 1) hx hb dX1_turn_52 (by decide) ?_
          exact W.zret hx hb hret (rfl) (fun t9 ht9 hW9 => ⟨⟨_, (upd fX x (nI 1), nI 1, cu + (nI 1)), rfl, ⟨(ww_b2_t ⟨⟨nI_pos (by omega), nI_ge hx9 (by omega)⟩, by rw [ex]; exact c_17⟩).symm, fun _ => by rw [ex], fun h => absurd ⟨⟨nI_pos (by omega), nI_ge hx9 (by omega)⟩, by rw [ex]; exact c_17⟩ h⟩, by show va_P _ _ _ t9.heap; rw [ht9]; exact hP⟩, hS.F ht9⟩) hS.2.2 dX1_turn_53
      · refine lv_iconst (v := nI 0) hx hb dX1_turn_20 (by decide) ?_
        exact W.zret hx hb hret (rfl) (fun t9 ht9 hW9 => ⟨⟨_, (fX, ol, cu), rfl, ⟨(ww_b2_f (fun h => h.2 (by rw [ex]; exact c_17))).symm, fun h => (show False from h.2 (by rw [ex]; exact c_17)).elim, fun _ => rfl⟩, by show va_P _ _ _ t9.heap; rw [ht9]; exact hP⟩, hS.F ht9⟩) hS.2.2 dX1_turn_21
set_option maxHeartbeats 4000000 in
set_option maxRecDepth 100000 in
theorem metX1_turn0 (l : Launch) (D : va_G) (a : Nat → Nat) (d : Nat → ClassId) (n : Nat) (fW fC fP fX fF fY : Nat → Int32) (ol pl cu : Int32) (sz : Nat) (w : Int32) : Met l yX1_turn (ws_ yX1_turn cX1_turn 3 (some .boolean)) ({ frames := 0, cells := 0, slots := 0, locals := 0 }) (va_Pc [.ref (a 0), .int w, .int (nI 0)] (ww_C D (ww_tX d) (ww_X a d n fW fC fP fX fF fY ol pl cu) sz)) (va_Qi (fun (v : Int32) (u : (Nat → Int32) × Int32 × Int32) => v = ww_b2 ((ww_isW w ∧ ¬ fX w.toNatClampNeg = nI 0)) ∧ ((ww_isW w ∧ ¬ fX w.toNatClampNeg = nI 0) → u = (upd fX w.toNatClampNeg (nI 0), nI 1, cu + (-1))) ∧ (¬ ((ww_isW w ∧ ¬ fX w.toNatClampNeg = nI 0)) → u = (fX, ol, cu))) (fun (u : (Nat → Int32) × Int32 × Int32) t => va_P D ww_cl (ww_X a d n fW fC fP u.1 fF fY u.2.1 pl u.2.2) t.heap) (va_A (ww_X a d n fW fC fP fX fF fY ol pl cu) sz)) 0 0 (va_A (ww_X a d n fW fC fP fX fF fY ol pl cu) sz) := by
  refine Met.ofW (cc := cX1_turn) (maxL := 3) (ret := (some .boolean)) (by decide) rfl ?_
  intro pr e s m args below meth c s₁ B hml hv
  obtain ⟨rfl, hsz, hP, hK, hD0⟩ := hv
  have hx := B.exec
  have hb := B.bytes
  have hret := B.returns
  have hts := atoms_spec (ws := (ws_ yX1_turn cX1_turn 3 (some .boolean))) B.pre
  have hts : ∀ w ∈ lw_all, w.before _ s = true := fun w h => hts w (List.mem_cons_of_mem _ h)
  have hown : s.vm.findClass RX1 = some m.cls := findClass_of_methodNamed B.named
  have hlocks := B.notSynchronized
  subst hsz
  have hD := hD0.self (sz := s.heap.size)
  generalize hAe : va_A (ww_X a d n fW fC fP fX fF fY ol pl cu) s.heap.size = A at hD ⊢
  have hA : ∀ q : Nat, s.heap.size ≤ q → A q := fun q h => by rw [← hAe]; exact Or.inr h
  have hS : va_S A s.heap s.heap [] := va_S.rf
  have hP : va_P D ww_cl (ww_X a d n fW fC fP fX fF fY ol pl cu) s.heap := hP
  have hl := lv_entry ([.ref (a 0), .int w, .int (nI 0)]) (n := 3) (Nat.le_of_ble_eq_true rfl)
  rw [lg_entry_eq]
  generalize (lg_sl ([.ref (a 0), .int w, .int (nI 0)]) ++ List.replicate (3 - (lg_sl ([.ref (a 0), .int w, .int (nI 0)])).length) Slot.unset).toArray = ls at hl ⊢
  have hl : lv_has ls 3 [(0, .ref (a 0)), (1, .int w), (2, .int (nI 0))] := hl
  refine lv_iload_n hx hb dX1_turn_0 rfl (lv_at hl 1 rfl) ?_
  refine lv_if_lt (tgt := 20) hx hb dX1_turn_1 (by decide) (fun c_1 => ?_) (fun c_1 => ?_)
  · refine lv_iconst (v := nI 0) hx hb dX1_turn_20 (by decide) ?_
    exact W.zret hx hb hret (rfl) (fun t9 ht9 hW9 => ⟨⟨_, (fX, ol, cu), rfl, ⟨(ww_b2_f (fun h => h.1.1 c_1)).symm, fun h => (show False from h.1.1 c_1).elim, fun _ => rfl⟩, by show va_P _ _ _ t9.heap; rw [ht9]; exact hP⟩, hS.F ht9⟩) hS.2.2 dX1_turn_21
  · refine lv_iload_n hx hb dX1_turn_4 rfl (lv_at hl 1 rfl) ?_
    refine lv_bipush (v := nI 16) hx hb dX1_turn_5 (by decide) ?_
    refine lv_icmp_ge (tgt := 20) hx hb dX1_turn_7 (by decide) (fun c_7 => ?_) (fun c_7 => ?_)
    · refine lv_iconst (v := nI 0) hx hb dX1_turn_20 (by decide) ?_
      exact W.zret hx hb hret (rfl) (fun t9 ht9 hW9 => ⟨⟨_, (fX, ol, cu), rfl, ⟨(ww_b2_f (fun h => h.1.2 c_7)).symm, fun h => (show False from h.1.2 c_7).elim, fun _ => rfl⟩, by show va_P _ _ _ t9.heap; rw [ht9]; exact hP⟩, hS.F ht9⟩) hS.2.2 dX1_turn_21
    · obtain ⟨x, hx9, rfl⟩ := ww_rng (by omega) c_1 c_7
      have ex : (nI x).toNatClampNeg = x := nI_clamp (by omega)
      refine lv_aload_n hx hb dX1_turn_10 rfl (lv_at hl 0 rfl) ?_
      refine ww_gX 4 q40 rfl hx hb hts hown hK hP dX1_turn_11 ?_
      refine lv_iload_n hx hb dX1_turn_14 rfl (lv_at hl 1 rfl) ?_
      refine ww_zald hx hb hK hP 4 3 rfl rfl dX1_turn_15 ?_
      refine lv_iload_n hx hb dX1_turn_16 rfl (lv_at hl 2 rfl) ?_
      refine lv_icmp_ne (tgt := 22) hx hb dX1_turn_17 (by decide) (fun c_17 => ?_) (fun c_17 => ?_)
      · refine lv_aload_n hx hb dX1_turn_22 rfl (lv_at hl 0 rfl) ?_
        refine ww_gX 4 q40 rfl hx hb hts hown hK hP dX1_turn_23 ?_
        refine lv_iload_n hx hb dX1_turn_26 rfl (lv_at hl 1 rfl) ?_
        refine lv_iload_n hx hb dX1_turn_27 rfl (lv_at hl 2 rfl) ?_
        refine ww_zast hx hb hK hP hD hS 4 3 rfl rfl rfl dX1_turn_28 (fun H locs hP hD hS => ?_)
        have hP : va_P D ww_cl (ww_X a d n fW fC fP (upd fX x (nI 0)) fF fY ol pl cu) H := hP
        have hD : va_D A (ww_X a d n fW fC fP (upd fX x (nI 0)) fF fY ol pl cu) := hD
        refine lv_aload_n hx hb dX1_turn_29 rfl (lv_at hl 0 rfl) ?_
        refine lv_dup hx hb dX1_turn_30 rfl ?_
        refine ww_gX 9 q45 rfl hx hb hts hown hK hP dX1_turn_31 ?_
        refine lv_iload_n hx hb dX1_turn_34 rfl (lv_at hl 2 rfl) ?_
        refine ww_if_eq (tgt := 42) hx hb dX1_turn_35 (by decide) (fun c_35 => ?_) (fun c_35 => ?_)
        · refine lv_iconst (v := -1) hx hb dX1_turn_42 (by decide) ?_
          refine lv_iadd hx hb dX1_turn_43 ?_
          refine ww_pX 9 q45 hx hb hts hown hK hP hD hS (ty := .int) (by decide +kernel) rfl rfl dX1_turn_44 (fun H locs hP hD hS => ?_)
          have hP : va_P D ww_cl (ww_X a d n fW fC fP (upd fX x (nI 0)) fF fY ol pl (cu + (-1))) H := hP
          have hD : va_D A (ww_X a d n fW fC fP (upd fX x (nI 0)) fF fY ol pl (cu + (-1))) := hD
          refine lv_aload_n hx hb dX1_turn_47 rfl (lv_at hl 0 rfl) ?_
          refine lv_iconst (v := nI 1) hx hb dX1_turn_48 (by decide) ?_
          refine ww_pX 7 q43 hx hb hts hown hK hP hD hS (ty := .boolean) (by decide +kernel) rfl rfl dX1_turn_49 (fun H locs hP hD hS => ?_)
          have hP : va_P D ww_cl (ww_X a d n fW fC fP (upd fX x (nI 0)) fF fY (nI 1) pl (cu + (-1))) H := hP
          have hD : va_D A (ww_X a d n fW fC fP (upd fX x (nI 0)) fF fY (nI 1) pl (cu + (-1))) := hD
          refine lv_iconst (v := nI 1) hx hb dX1_turn_52 (by decide) ?_
          exact W.zret hx hb hret (rfl) (fun t9 ht9 hW9 => ⟨⟨_, (upd fX x (nI 0), nI 1, cu + (-1)), rfl, ⟨(ww_b2_t ⟨⟨nI_pos (by omega), nI_ge hx9 (by omega)⟩, by rw [ex]; exact c_17⟩).symm, fun _ => by rw [ex], fun h => absurd ⟨⟨nI_pos (by omega), nI_ge hx9 (by omega)⟩, by rw [ex]; exact c_17⟩ h⟩, by show va_P _ _ _ t9.heap; rw [ht9]; exact hP⟩, hS.F ht9⟩) hS.2.2 dX1_turn_53
        · exact absurd rfl c_35
      · refine lv_iconst (v := nI 0) hx hb dX1_turn_20 (by decide) ?_
        exact W.zret hx hb hret (rfl) (fun t9 ht9 hW9 => ⟨⟨_, (fX, ol, cu), rfl, ⟨(ww_b2_f (fun h => h.2 (by rw [ex]; exact c_17))).symm, fun h => (show False from h.2 (by rw [ex]; exact c_17)).elim, fun _ => rfl⟩, by show va_P _ _ _ t9.heap; rw [ht9]; exact hP⟩, hS.F ht9⟩) hS.2.2 dX1_turn_21
set_option maxHeartbeats 4000000 in
set_option maxRecDepth 100000 in
theorem metX1_cut (l : Launch) (D : va_G) (a : Nat → Nat) (d : Nat → ClassId) (n : Nat) (fW fC fP fX fF fY : Nat → Int32) (ol pl cu : Int32) (sz : Nat) (w : Int32) : Met l yX1_cut (ws_ yX1_cut cX1_cut 2 (some .boolean)) ({ frames := 1, cells := 0, slots := 0, locals := 22 }) (va_Pc [.ref (a 0), .int w] (ww_C D (ww_tX d) (ww_X a d n fW fC fP fX fF fY ol pl cu) sz)) (va_Qi (fun (v : Int32) (u : (Nat → Int32) × Int32 × Int32) => v = ww_b2 ((ww_isW w ∧ ¬ fX w.toNatClampNeg = nI 1)) ∧ ((ww_isW w ∧ ¬ fX w.toNatClampNeg = nI 1) → u = (upd fX w.toNatClampNeg (nI 1), nI 1, cu + nI 1)) ∧ (¬ ((ww_isW w ∧ ¬ fX w.toNatClampNeg = nI 1)) → u = (fX, ol, cu))) (fun (u : (Nat → Int32) × Int32 × Int32) t => va_P D ww_cl (ww_X a d n fW fC fP u.1 fF fY u.2.1 pl u.2.2) t.heap) (va_A (ww_X a d n fW fC fP fX fF fY ol pl cu) sz)) 0 0 (va_A (ww_X a d n fW fC fP fX fF fY ol pl cu) sz) := by
  refine Met.ofW (cc := cX1_cut) (maxL := 2) (ret := (some .boolean)) (by decide) rfl ?_
  intro pr e s m args below meth c s₁ B hml hv
  obtain ⟨rfl, hsz, hP, hK, hD0⟩ := hv
  have hx := B.exec
  have hb := B.bytes
  have hret := B.returns
  have hts := atoms_spec (ws := (ws_ yX1_cut cX1_cut 2 (some .boolean))) B.pre
  have hts : ∀ w ∈ lw_all, w.before _ s = true := fun w h => hts w (List.mem_cons_of_mem _ h)
  have hown : s.vm.findClass RX1 = some m.cls := findClass_of_methodNamed B.named
  have hlocks := B.notSynchronized
  subst hsz
  have hD := hD0.self (sz := s.heap.size)
  generalize hAe : va_A (ww_X a d n fW fC fP fX fF fY ol pl cu) s.heap.size = A at hD ⊢
  have hA : ∀ q : Nat, s.heap.size ≤ q → A q := fun q h => by rw [← hAe]; exact Or.inr h
  have hS : va_S A s.heap s.heap [] := va_S.rf
  have hP : va_P D ww_cl (ww_X a d n fW fC fP fX fF fY ol pl cu) s.heap := hP
  have hl := lv_entry ([.ref (a 0), .int w]) (n := 2) (Nat.le_of_ble_eq_true rfl)
  rw [lg_entry_eq]
  generalize (lg_sl ([.ref (a 0), .int w]) ++ List.replicate (2 - (lg_sl ([.ref (a 0), .int w])).length) Slot.unset).toArray = ls at hl ⊢
  have hl : lv_has ls 2 [(0, .ref (a 0)), (1, .int w)] := hl
  refine lv_aload_n hx hb dX1_cut_0 rfl (lv_at hl 0 rfl) ?_
  refine lv_iload_n hx hb dX1_cut_1 rfl (lv_at hl 1 rfl) ?_
  refine lv_iconst (v := nI 1) hx hb dX1_cut_2 (by decide) ?_
  refine ww_rw (As := [.int w, .int (nI 1)]) (rest := []) ⟨hx, hb, hml, hown, hts⟩ hK hP hD hS hA (metX1_turn1 l D a d n fW fC fP fX fF fY ol pl cu _ w) rfl rfl (cwV 2 hts (lw_V q89 q91 qs1 q19 q92) rfl rfl rfl (by decide +kernel) ⟨Nat.le_of_ble_eq_true rfl, Nat.le_of_ble_eq_true rfl⟩) rfl rfl (Nat.le_of_ble_eq_true rfl) hl.1 ⟨Nat.zero_le _, Nat.zero_le _⟩ dX1_cut_3 (fun r_3 u_3 H locs h_3 hP hk_3 hS => ?_)
  obtain ⟨rfl, g1, g2⟩ := h_3
  have hP : va_P D ww_cl (ww_X a d n fW fC fP u_3.1 fF fY u_3.2.1 pl u_3.2.2) H := hP
  have hD : va_D A (ww_X a d n fW fC fP u_3.1 fF fY u_3.2.1 pl u_3.2.2) := ww_Dad hD rfl
  exact W.zret hx hb hret (ww_b2_n) (fun t9 ht9 hW9 => ⟨⟨_, u_3, rfl, ⟨rfl, g1, g2⟩, by show va_P _ _ _ t9.heap; rw [ht9]; exact hP⟩, hS.F ht9⟩) hS.2.2 dX1_cut_6
set_option maxHeartbeats 4000000 in
set_option maxRecDepth 100000 in
theorem metX1_mend (l : Launch) (D : va_G) (a : Nat → Nat) (d : Nat → ClassId) (n : Nat) (fW fC fP fX fF fY : Nat → Int32) (ol pl cu : Int32) (sz : Nat) (w : Int32) : Met l yX1_mend (ws_ yX1_mend cX1_mend 2 (some .boolean)) ({ frames := 1, cells := 0, slots := 0, locals := 22 }) (va_Pc [.ref (a 0), .int w] (ww_C D (ww_tX d) (ww_X a d n fW fC fP fX fF fY ol pl cu) sz)) (va_Qi (fun (v : Int32) (u : (Nat → Int32) × Int32 × Int32) => v = ww_b2 ((ww_isW w ∧ ¬ fX w.toNatClampNeg = nI 0)) ∧ ((ww_isW w ∧ ¬ fX w.toNatClampNeg = nI 0) → u = (upd fX w.toNatClampNeg (nI 0), nI 1, cu + (-1))) ∧ (¬ ((ww_isW w ∧ ¬ fX w.toNatClampNeg = nI 0)) → u = (fX, ol, cu))) (fun (u : (Nat → Int32) × Int32 × Int32) t => va_P D ww_cl (ww_X a d n fW fC fP u.1 fF fY u.2.1 pl u.2.2) t.heap) (va_A (ww_X a d n fW fC fP fX fF fY ol pl cu) sz)) 0 0 (va_A (ww_X a d n fW fC fP fX fF fY ol pl cu) sz) := by
  refine Met.ofW (cc := cX1_mend) (maxL := 2) (ret := (some .boolean)) (by decide) rfl ?_
  intro pr e s m args below meth c s₁ B hml hv
  obtain ⟨rfl, hsz, hP, hK, hD0⟩ := hv
  have hx := B.exec
  have hb := B.bytes
  have hret := B.returns
  have hts := atoms_spec (ws := (ws_ yX1_mend cX1_mend 2 (some .boolean))) B.pre
  have hts : ∀ w ∈ lw_all, w.before _ s = true := fun w h => hts w (List.mem_cons_of_mem _ h)
  have hown : s.vm.findClass RX1 = some m.cls := findClass_of_methodNamed B.named
  have hlocks := B.notSynchronized
  subst hsz
  have hD := hD0.self (sz := s.heap.size)
  generalize hAe : va_A (ww_X a d n fW fC fP fX fF fY ol pl cu) s.heap.size = A at hD ⊢
  have hA : ∀ q : Nat, s.heap.size ≤ q → A q := fun q h => by rw [← hAe]; exact Or.inr h
  have hS : va_S A s.heap s.heap [] := va_S.rf
  have hP : va_P D ww_cl (ww_X a d n fW fC fP fX fF fY ol pl cu) s.heap := hP
  have hl := lv_entry ([.ref (a 0), .int w]) (n := 2) (Nat.le_of_ble_eq_true rfl)
  rw [lg_entry_eq]
  generalize (lg_sl ([.ref (a 0), .int w]) ++ List.replicate (2 - (lg_sl ([.ref (a 0), .int w])).length) Slot.unset).toArray = ls at hl ⊢
  have hl : lv_has ls 2 [(0, .ref (a 0)), (1, .int w)] := hl
  refine lv_aload_n hx hb dX1_mend_0 rfl (lv_at hl 0 rfl) ?_
  refine lv_iload_n hx hb dX1_mend_1 rfl (lv_at hl 1 rfl) ?_
  refine lv_iconst (v := nI 0) hx hb dX1_mend_2 (by decide) ?_
  refine ww_rw (As := [.int w, .int (nI 0)]) (rest := []) ⟨hx, hb, hml, hown, hts⟩ hK hP hD hS hA (metX1_turn0 l D a d n fW fC fP fX fF fY ol pl cu _ w) rfl rfl (cwV 2 hts (lw_V q89 q91 qs1 q19 q92) rfl rfl rfl (by decide +kernel) ⟨Nat.le_of_ble_eq_true rfl, Nat.le_of_ble_eq_true rfl⟩) rfl rfl (Nat.le_of_ble_eq_true rfl) hl.1 ⟨Nat.zero_le _, Nat.zero_le _⟩ dX1_mend_3 (fun r_3 u_3 H locs h_3 hP hk_3 hS => ?_)
  obtain ⟨rfl, g1, g2⟩ := h_3
  have hP : va_P D ww_cl (ww_X a d n fW fC fP u_3.1 fF fY u_3.2.1 pl u_3.2.2) H := hP
  have hD : va_D A (ww_X a d n fW fC fP u_3.1 fF fY u_3.2.1 pl u_3.2.2) := ww_Dad hD rfl
  exact W.zret hx hb hret (ww_b2_n) (fun t9 ht9 hW9 => ⟨⟨_, u_3, rfl, ⟨rfl, g1, g2⟩, by show va_P _ _ _ t9.heap; rw [ht9]; exact hP⟩, hS.F ht9⟩) hS.2.2 dX1_mend_6
set_option maxHeartbeats 4000000 in
set_option maxRecDepth 100000 in
theorem metX2_plug (l : Launch) (D : va_G) (a : Nat → Nat) (d : Nat → ClassId) (n : Nat) (fW fC fX fZ : Nat → Int32) (wp wr : Int32) (sz : Nat) (r q w k : Int32) (hn : n ≤ 10) : Met l yX2_plug (ws_ yX2_plug cX2_plug 5 (some .boolean)) ({ frames := 2, cells := 0, slots := 0, locals := 43 }) (va_Pc [.ref (a 0), .int r, .int q, .int w, .int k] (ww_C D (ww_tM d) (ww_M a d n fW fC fX fZ wp wr) sz)) (va_Qi (fun (v : Int32) (u : (Nat → Int32) × (Nat → Int32)) => v = ww_b2 (ww_okp n fW r q w k) ∧ (ww_okp n fW r q w k → u = (upd fW (4 * r.toNatClampNeg + q.toNatClampNeg) w, upd fC (4 * r.toNatClampNeg + q.toNatClampNeg) k)) ∧ (¬ (ww_okp n fW r q w k) → u = (fW, fC))) (fun (u : (Nat → Int32) × (Nat → Int32)) t => va_P D ww_cl (ww_M a d n u.1 u.2 fX fZ wp wr) t.heap) (va_A (ww_M a d n fW fC fX fZ wp wr) sz)) 0 0 (va_A (ww_M a d n fW fC fX fZ wp wr) sz) := by
  refine Met.ofW (cc := cX2_plug) (maxL := 5) (ret := (some .boolean)) (by decide) rfl ?_
  intro pr e s m args below meth c s₁ B hml hv
  obtain ⟨rfl, hsz, hP, hK, hD0⟩ := hv
  have hx := B.exec
  have hb := B.bytes
  have hret := B.returns
  have hts := atoms_spec (ws := (ws_ yX2_plug cX2_plug 5 (some .boolean))) B.pre
  have hts : ∀ w ∈ lw_all, w.before _ s = true := fun w h => hts w (List.mem_cons_of_mem _ h)
  have hown : s.vm.findClass RX2 = some m.cls := findClass_of_methodNamed B.named
  have hlocks := B.notSynchronized
  subst hsz
  have hD := hD0.self (sz := s.heap.size)
  generalize hAe : va_A (ww_M a d n fW fC fX fZ wp wr) s.heap.size = A at hD ⊢
  have hA : ∀ q : Nat, s.heap.size ≤ q → A q := fun q h => by rw [← hAe]; exact Or.inr h
  have hS : va_S A s.heap s.heap [] := va_S.rf
  have hP : va_P D ww_cl (ww_M a d n fW fC fX fZ wp wr) s.heap := hP
  have hl := lv_entry ([.ref (a 0), .int r, .int q, .int w, .int k]) (n := 5) (Nat.le_of_ble_eq_true rfl)
  rw [lg_entry_eq]
  generalize (lg_sl ([.ref (a 0), .int r, .int q, .int w, .int k]) ++ List.replicate (5 - (lg_sl ([.ref (a 0), .int r, .int q, .int w, .int k])).length) Slot.unset).toArray = ls at hl ⊢
  have hl : lv_has ls 5 [(0, .ref (a 0)), (1, .int r), (2, .int q), (3, .int w), (4, .int k)] := hl
  refine lv_aload_n hx hb dX2_plug_0 rfl (lv_at hl 0 rfl) ?_
  refine lv_iload_n hx hb dX2_plug_1 rfl (lv_at hl 1 rfl) ?_
  refine lv_iload_n hx hb dX2_plug_2 rfl (lv_at hl 2 rfl) ?_
  refine ww_ro (As := [.int r, .int q]) (rest := []) ⟨hx, hb, hml, hown, hts⟩ hK hP (metX2_isPlace l D a d n fW fC fX fZ wp wr r q) rfl rfl (cwV 2 hts (lw_V q186 q188 qs9 q21 q189) rfl rfl rfl (by decide +kernel) ⟨Nat.le_of_ble_eq_true rfl, Nat.le_of_ble_eq_true rfl⟩) rfl rfl (Nat.le_of_ble_eq_true rfl) hl.1 ⟨Nat.zero_le _, Nat.zero_le _⟩ dX2_plug_3 (fun r_3 h_3 => ?_)
  have h_3 : r_3 = ww_b2 (ww_isP n r q) := h_3
  subst h_3
  refine ww_if_eqB (tgt := 29) hx hb dX2_plug_6 (by decide) (fun c_6 => ?_) (fun c_6 => ?_)
  · refine lv_iconst (v := nI 0) hx hb dX2_plug_29 (by decide) ?_
    exact W.zret hx hb hret (rfl) (fun t9 ht9 hW9 => ⟨⟨_, (fW, fC), rfl, ⟨(ww_b2_f (fun h => c_6 h.1)).symm, fun h => (show False from c_6 h.1).elim, fun _ => rfl⟩, by show va_P _ _ _ t9.heap; rw [ht9]; exact hP⟩, hS.F ht9⟩) hS.2.2 dX2_plug_30
  · refine lv_iload_n hx hb dX2_plug_9 rfl (lv_at hl 3 rfl) ?_
    refine ww_roS (As := [.int w]) (rest := []) ⟨hx, hb, hml, hown, hts⟩ (metX2_isWire l w) (va_cwS 1 hts (lw_S q194 q195 q21 q196) rfl rfl rfl (by decide +kernel) ⟨Nat.le_of_ble_eq_true rfl, Nat.le_of_ble_eq_true rfl⟩) rfl rfl (Nat.le_of_ble_eq_true rfl) hl.1 ⟨Nat.zero_le _, Nat.zero_le _⟩ dX2_plug_10 (fun r_10 h_10 => ?_)
    have h_10 : r_10 = ww_b2 (ww_isW w) := h_10
    subst h_10
    refine ww_if_eqB (tgt := 29) hx hb dX2_plug_13 (by decide) (fun c_13 => ?_) (fun c_13 => ?_)
    · refine lv_iconst (v := nI 0) hx hb dX2_plug_29 (by decide) ?_
      exact W.zret hx hb hret (rfl) (fun t9 ht9 hW9 => ⟨⟨_, (fW, fC), rfl, ⟨(ww_b2_f (fun h => c_13 h.2.1)).symm, fun h => (show False from c_13 h.2.1).elim, fun _ => rfl⟩, by show va_P _ _ _ t9.heap; rw [ht9]; exact hP⟩, hS.F ht9⟩) hS.2.2 dX2_plug_30
    · refine lv_iload hx hb dX2_plug_16 (lv_at hl 4 rfl) ?_
      refine lv_iconst (v := nI 1) hx hb dX2_plug_18 (by decide) ?_
      refine lv_icmp_lt (tgt := 29) hx hb dX2_plug_19 (by decide) (fun c_19 => ?_) (fun c_19 => ?_)
      · refine lv_iconst (v := nI 0) hx hb dX2_plug_29 (by decide) ?_
        exact W.zret hx hb hret (rfl) (fun t9 ht9 hW9 => ⟨⟨_, (fW, fC), rfl, ⟨(ww_b2_f (fun h => h.2.2.1 c_19)).symm, fun h => (show False from h.2.2.1 c_19).elim, fun _ => rfl⟩, by show va_P _ _ _ t9.heap; rw [ht9]; exact hP⟩, hS.F ht9⟩) hS.2.2 dX2_plug_30
      · refine lv_iload hx hb dX2_plug_22 (lv_at hl 4 rfl) ?_
        refine lv_bipush (v := nI 9) hx hb dX2_plug_24 (by decide) ?_
        refine lv_icmp_le (tgt := 31) hx hb dX2_plug_26 (by decide) (fun c_26 => ?_) (fun c_26 => ?_)
        · obtain ⟨i, hi, rfl⟩ := ww_rng (by omega) c_6.1.1 c_6.1.2
          obtain ⟨j, hj, rfl⟩ := ww_rng (by omega) c_6.2.1 c_6.2.2
          have ei : (nI i).toNatClampNeg = i := nI_clamp (by omega)
          have ej : (nI j).toNatClampNeg = j := nI_clamp (by omega)
          refine lv_aload_n hx hb dX2_plug_31 rfl (lv_at hl 0 rfl) ?_
          refine ww_gM 1 q161 rfl hx hb hts hown hK hP dX2_plug_32 ?_
          refine lv_iconst (v := nI 4) hx hb dX2_plug_35 (by decide) ?_
          refine lv_iload_n hx hb dX2_plug_36 rfl (lv_at hl 1 rfl) ?_
          refine ww_imul hx hb dX2_plug_37 ?_
          refine lv_iload_n hx hb dX2_plug_38 rfl (lv_at hl 2 rfl) ?_
          refine ww_iadd hx hb dX2_plug_39 ?_
          refine ww_iald hx hb hK hP 1 0 rfl rfl dX2_plug_40 ?_
          refine lv_iconst (v := -1) hx hb dX2_plug_41 (by decide) ?_
          refine lv_icmp_ne (tgt := 55) hx hb dX2_plug_42 (by decide) (fun c_42 => ?_) (fun c_42 => ?_)
          · refine lv_iconst (v := nI 0) hx hb dX2_plug_55 (by decide) ?_
            exact W.zret hx hb hret (rfl) (fun t9 ht9 hW9 => ⟨⟨_, (fW, fC), rfl, ⟨(ww_b2_f (fun h => c_42 (by have z := h.2.2.2.2.1; rw [ei, ej] at z; exact z))).symm, fun h => (show False from c_42 (by have z := h.2.2.2.2.1; rw [ei, ej] at z; exact z)).elim, fun _ => rfl⟩, by show va_P _ _ _ t9.heap; rw [ht9]; exact hP⟩, hS.F ht9⟩) hS.2.2 dX2_plug_56
          · refine lv_aload_n hx hb dX2_plug_45 rfl (lv_at hl 0 rfl) ?_
            refine lv_iload_n hx hb dX2_plug_46 rfl (lv_at hl 1 rfl) ?_
            refine lv_iload_n hx hb dX2_plug_47 rfl (lv_at hl 3 rfl) ?_
            refine ww_ro (As := [.int (nI i), .int w]) (rest := []) ⟨hx, hb, hml, hown, hts⟩ hK hP (metX2_portOn l D a d n fW fC fX fZ wp wr i w (by omega)) rfl rfl (cwV 2 hts (lw_V q197 q199 qs11 q21 q200) rfl rfl rfl (by decide +kernel) ⟨Nat.le_of_ble_eq_true rfl, Nat.le_of_ble_eq_true rfl⟩) rfl rfl (Nat.le_of_ble_eq_true rfl) hl.1 ⟨Nat.zero_le _, Nat.zero_le _⟩ dX2_plug_48 (fun r_48 h_48 => ?_)
            have h_48 : r_48 = ww_po fW i w := h_48
            subst h_48
            refine lv_iconst (v := -1) hx hb dX2_plug_51 (by decide) ?_
            refine lv_icmp_eq (tgt := 57) hx hb dX2_plug_52 (by decide) (fun c_52 => ?_) (fun c_52 => ?_)
            · refine lv_aload_n hx hb dX2_plug_57 rfl (lv_at hl 0 rfl) ?_
              refine ww_gM 1 q161 rfl hx hb hts hown hK hP dX2_plug_58 ?_
              refine lv_iconst (v := nI 4) hx hb dX2_plug_61 (by decide) ?_
              refine lv_iload_n hx hb dX2_plug_62 rfl (lv_at hl 1 rfl) ?_
              refine ww_imul hx hb dX2_plug_63 ?_
              refine lv_iload_n hx hb dX2_plug_64 rfl (lv_at hl 2 rfl) ?_
              refine ww_iadd hx hb dX2_plug_65 ?_
              refine lv_iload_n hx hb dX2_plug_66 rfl (lv_at hl 3 rfl) ?_
              refine ww_iast hx hb hK hP hD hS 1 0 rfl rfl dX2_plug_67 (fun H locs hP hD hS => ?_)
              have hP : va_P D ww_cl (ww_M a d n (upd fW ((4 * i) + j) w) fC fX fZ wp wr) H := hP
              have hD : va_D A (ww_M a d n (upd fW ((4 * i) + j) w) fC fX fZ wp wr) := hD
              refine lv_aload_n hx hb dX2_plug_68 rfl (lv_at hl 0 rfl) ?_
              refine ww_gM 2 q162 rfl hx hb hts hown hK hP dX2_plug_69 ?_
              refine lv_iconst (v := nI 4) hx hb dX2_plug_72 (by decide) ?_
              refine lv_iload_n hx hb dX2_plug_73 rfl (lv_at hl 1 rfl) ?_
              refine ww_imul hx hb dX2_plug_74 ?_
              refine lv_iload_n hx hb dX2_plug_75 rfl (lv_at hl 2 rfl) ?_
              refine ww_iadd hx hb dX2_plug_76 ?_
              refine lv_iload hx hb dX2_plug_77 (lv_at hl 4 rfl) ?_
              refine ww_iast hx hb hK hP hD hS 2 1 rfl rfl dX2_plug_79 (fun H locs hP hD hS => ?_)
              have hP : va_P D ww_cl (ww_M a d n (upd fW ((4 * i) + j) w) (upd fC ((4 * i) + j) k) fX fZ wp wr) H := hP
              have hD : va_D A (ww_M a d n (upd fW ((4 * i) + j) w) (upd fC ((4 * i) + j) k) fX fZ wp wr) := hD
              refine lv_iconst (v := nI 1) hx hb dX2_plug_80 (by decide) ?_
              exact W.zret hx hb hret (rfl) (fun t9 ht9 hW9 => ⟨⟨_, (upd fW ((4 * i) + j) w, upd fC ((4 * i) + j) k), rfl, ⟨(ww_b2_t ⟨⟨⟨nI_pos (by omega), nI_ge hi (by omega)⟩, nI_pos (by omega), nI_ge hj (by omega)⟩, c_13, c_19, c_26, by rw [ei, ej]; exact c_42, by rw [ei]; exact c_52⟩).symm, fun _ => by rw [ei, ej], fun h => absurd ⟨⟨⟨nI_pos (by omega), nI_ge hi (by omega)⟩, nI_pos (by omega), nI_ge hj (by omega)⟩, c_13, c_19, c_26, by rw [ei, ej]; exact c_42, by rw [ei]; exact c_52⟩ h⟩, by show va_P _ _ _ t9.heap; rw [ht9]; exact hP⟩, hS.F ht9⟩) hS.2.2 dX2_plug_81
            · refine lv_iconst (v := nI 0) hx hb dX2_plug_55 (by decide) ?_
              exact W.zret hx hb hret (rfl) (fun t9 ht9 hW9 => ⟨⟨_, (fW, fC), rfl, ⟨(ww_b2_f (fun h => c_52 (by have z := h.2.2.2.2.2; rw [ei] at z; exact z))).symm, fun h => (show False from c_52 (by have z := h.2.2.2.2.2; rw [ei] at z; exact z)).elim, fun _ => rfl⟩, by show va_P _ _ _ t9.heap; rw [ht9]; exact hP⟩, hS.F ht9⟩) hS.2.2 dX2_plug_56
        · refine lv_iconst (v := nI 0) hx hb dX2_plug_29 (by decide) ?_
          exact W.zret hx hb hret (rfl) (fun t9 ht9 hW9 => ⟨⟨_, (fW, fC), rfl, ⟨(ww_b2_f (fun h => c_26 h.2.2.2.1)).symm, fun h => (show False from c_26 h.2.2.2.1).elim, fun _ => rfl⟩, by show va_P _ _ _ t9.heap; rw [ht9]; exact hP⟩, hS.F ht9⟩) hS.2.2 dX2_plug_30
set_option maxHeartbeats 4000000 in
set_option maxRecDepth 100000 in
theorem metX2_draw (l : Launch) (D : va_G) (a : Nat → Nat) (d : Nat → ClassId) (n : Nat) (fW fC fX fZ : Nat → Int32) (wp wr : Int32) (sz : Nat) (r q : Int32) (hn : n ≤ 10) : Met l yX2_draw (ws_ yX2_draw cX2_draw 3 (some .boolean)) ({ frames := 2, cells := 0, slots := 0, locals := 43 }) (va_Pc [.ref (a 0), .int r, .int q] (ww_C D (ww_tM d) (ww_M a d n fW fC fX fZ wp wr) sz)) (va_Qi (fun (v : Int32) (u : (Nat → Int32)) => v = ww_b2 (ww_okd n fW r q) ∧ (ww_okd n fW r q → u = upd fW (4 * r.toNatClampNeg + q.toNatClampNeg) (-1)) ∧ (¬ (ww_okd n fW r q) → u = fW)) (fun (u : (Nat → Int32)) t => va_P D ww_cl (ww_M a d n u fC fX fZ wp wr) t.heap) (va_A (ww_M a d n fW fC fX fZ wp wr) sz)) 0 0 (va_A (ww_M a d n fW fC fX fZ wp wr) sz) := by
  refine Met.ofW (cc := cX2_draw) (maxL := 3) (ret := (some .boolean)) (by decide) rfl ?_
  intro pr e s m args below meth c s₁ B hml hv
  obtain ⟨rfl, hsz, hP, hK, hD0⟩ := hv
  have hx := B.exec
  have hb := B.bytes
  have hret := B.returns
  have hts := atoms_spec (ws := (ws_ yX2_draw cX2_draw 3 (some .boolean))) B.pre
  have hts : ∀ w ∈ lw_all, w.before _ s = true := fun w h => hts w (List.mem_cons_of_mem _ h)
  have hown : s.vm.findClass RX2 = some m.cls := findClass_of_methodNamed B.named
  have hlocks := B.notSynchronized
  subst hsz
  have hD := hD0.self (sz := s.heap.size)
  generalize hAe : va_A (ww_M a d n fW fC fX fZ wp wr) s.heap.size = A at hD ⊢
  have hA : ∀ q : Nat, s.heap.size ≤ q → A q := fun q h => by rw [← hAe]; exact Or.inr h
  have hS : va_S A s.heap s.heap [] := va_S.rf
  have hP : va_P D ww_cl (ww_M a d n fW fC fX fZ wp wr) s.heap := hP
  have hl := lv_entry ([.ref (a 0), .int r, .int q]) (n := 3) (Nat.le_of_ble_eq_true rfl)
  rw [lg_entry_eq]
  generalize (lg_sl ([.ref (a 0), .int r, .int q]) ++ List.replicate (3 - (lg_sl ([.ref (a 0), .int r, .int q])).length) Slot.unset).toArray = ls at hl ⊢
  have hl : lv_has ls 3 [(0, .ref (a 0)), (1, .int r), (2, .int q)] := hl
  refine lv_aload_n hx hb dX2_draw_0 rfl (lv_at hl 0 rfl) ?_
  refine lv_iload_n hx hb dX2_draw_1 rfl (lv_at hl 1 rfl) ?_
  refine lv_iload_n hx hb dX2_draw_2 rfl (lv_at hl 2 rfl) ?_
  refine ww_ro (As := [.int r, .int q]) (rest := []) ⟨hx, hb, hml, hown, hts⟩ hK hP (metX2_isPlace l D a d n fW fC fX fZ wp wr r q) rfl rfl (cwV 2 hts (lw_V q186 q188 qs9 q21 q189) rfl rfl rfl (by decide +kernel) ⟨Nat.le_of_ble_eq_true rfl, Nat.le_of_ble_eq_true rfl⟩) rfl rfl (Nat.le_of_ble_eq_true rfl) hl.1 ⟨Nat.zero_le _, Nat.zero_le _⟩ dX2_draw_3 (fun r_3 h_3 => ?_)
  have h_3 : r_3 = ww_b2 (ww_isP n r q) := h_3
  subst h_3
  refine ww_if_eqB (tgt := 23) hx hb dX2_draw_6 (by decide) (fun c_6 => ?_) (fun c_6 => ?_)
  · refine lv_iconst (v := nI 0) hx hb dX2_draw_23 (by decide) ?_
    exact W.zret hx hb hret (rfl) (fun t9 ht9 hW9 => ⟨⟨_, fW, rfl, ⟨(ww_b2_f (fun h => c_6 h.1)).symm, fun h => (show False from c_6 h.1).elim, fun _ => rfl⟩, by show va_P _ _ _ t9.heap; rw [ht9]; exact hP⟩, hS.F ht9⟩) hS.2.2 dX2_draw_24
  · obtain ⟨i, hi, rfl⟩ := ww_rng (by omega) c_6.1.1 c_6.1.2
    obtain ⟨j, hj, rfl⟩ := ww_rng (by omega) c_6.2.1 c_6.2.2
    have ei : (nI i).toNatClampNeg = i := nI_clamp (by omega)
    have ej : (nI j).toNatClampNeg = j := nI_clamp (by omega)
    refine lv_aload_n hx hb dX2_draw_9 rfl (lv_at hl 0 rfl) ?_
    refine ww_gM 1 q161 rfl hx hb hts hown hK hP dX2_draw_10 ?_
    refine lv_iconst (v := nI 4) hx hb dX2_draw_13 (by decide) ?_
    refine lv_iload_n hx hb dX2_draw_14 rfl (lv_at hl 1 rfl) ?_
    refine ww_imul hx hb dX2_draw_15 ?_
    refine lv_iload_n hx hb dX2_draw_16 rfl (lv_at hl 2 rfl) ?_
    refine ww_iadd hx hb dX2_draw_17 ?_
    refine ww_iald hx hb hK hP 1 0 rfl rfl dX2_draw_18 ?_
    refine lv_iconst (v := -1) hx hb dX2_draw_19 (by decide) ?_
    refine lv_icmp_ne (tgt := 25) hx hb dX2_draw_20 (by decide) (fun c_20 => ?_) (fun c_20 => ?_)
    · refine lv_aload_n hx hb dX2_draw_25 rfl (lv_at hl 0 rfl) ?_
      refine ww_gM 1 q161 rfl hx hb hts hown hK hP dX2_draw_26 ?_
      refine lv_iconst (v := nI 4) hx hb dX2_draw_29 (by decide) ?_
      refine lv_iload_n hx hb dX2_draw_30 rfl (lv_at hl 1 rfl) ?_
      refine ww_imul hx hb dX2_draw_31 ?_
      refine lv_iload_n hx hb dX2_draw_32 rfl (lv_at hl 2 rfl) ?_
      refine ww_iadd hx hb dX2_draw_33 ?_
      refine lv_iconst (v := -1) hx hb dX2_draw_34 (by decide) ?_
      refine ww_iast hx hb hK hP hD hS 1 0 rfl rfl dX2_draw_35 (fun H locs hP hD hS => ?_)
      have hP : va_P D ww_cl (ww_M a d n (upd fW ((4 * i) + j) (-1)) fC fX fZ wp wr) H := hP
      have hD : va_D A (ww_M a d n (upd fW ((4 * i) + j) (-1)) fC fX fZ wp wr) := hD
      refine lv_iconst (v := nI 1) hx hb dX2_draw_36 (by decide) ?_
      exact W.zret hx hb hret (rfl) (fun t9 ht9 hW9 => ⟨⟨_, (upd fW ((4 * i) + j) (-1)), rfl, ⟨(ww_b2_t ⟨⟨⟨nI_pos (by omega), nI_ge hi (by omega)⟩, nI_pos (by omega), nI_ge hj (by omega)⟩, by rw [ei, ej]; exact c_20⟩).symm, fun _ => by rw [ei, ej], fun h => absurd ⟨⟨⟨nI_pos (by omega), nI_ge hi (by omega)⟩, nI_pos (by omega), nI_ge hj (by omega)⟩, by rw [ei, ej]; exact c_20⟩ h⟩, by show va_P _ _ _ t9.heap; rw [ht9]; exact hP⟩, hS.F ht9⟩) hS.2.2 dX2_draw_37
    · refine lv_iconst (v := nI 0) hx hb dX2_draw_23 (by decide) ?_
      exact W.zret hx hb hret (rfl) (fun t9 ht9 hW9 => ⟨⟨_, fW, rfl, ⟨(ww_b2_f (fun h => h.2 (by rw [ei, ej]; exact c_20))).symm, fun h => (show False from h.2 (by rw [ei, ej]; exact c_20)).elim, fun _ => rfl⟩, by show va_P _ _ _ t9.heap; rw [ht9]; exact hP⟩, hS.F ht9⟩) hS.2.2 dX2_draw_24
set_option maxHeartbeats 4000000 in
set_option maxRecDepth 100000 in
theorem metX2_cost (l : Launch) (D : va_G) (a : Nat → Nat) (d : Nat → ClassId) (n : Nat) (fW fC fX fZ : Nat → Int32) (wp wr : Int32) (sz : Nat) (r q k : Int32) (hn : n ≤ 10) : Met l yX2_cost (ws_ yX2_cost cX2_cost 5 (some .int)) ({ frames := 2, cells := 0, slots := 0, locals := 43 }) (va_Pc [.ref (a 0), .int r, .int q, .int k] (ww_C D (ww_tM d) (ww_M a d n fW fC fX fZ wp wr) sz)) (va_Qi (fun (v : Int32) (u : (Nat → Int32)) => (ww_okc n fW r q k → v = fC (4 * r.toNatClampNeg + q.toNatClampNeg) ∧ u = upd fC (4 * r.toNatClampNeg + q.toNatClampNeg) k) ∧ (¬ (ww_okc n fW r q k) → v = -1 ∧ u = fC)) (fun (u : (Nat → Int32)) t => va_P D ww_cl (ww_M a d n fW u fX fZ wp wr) t.heap) (va_A (ww_M a d n fW fC fX fZ wp wr) sz)) 0 0 (va_A (ww_M a d n fW fC fX fZ wp wr) sz) := by
  refine Met.ofW (cc := cX2_cost) (maxL := 5) (ret := (some .int)) (by decide) rfl ?_
  intro pr e s m args below meth c s₁ B hml hv
  obtain ⟨rfl, hsz, hP, hK, hD0⟩ := hv
  have hx := B.exec
  have hb := B.bytes
  have hret := B.returns
  have hts := atoms_spec (ws := (ws_ yX2_cost cX2_cost 5 (some .int))) B.pre
  have hts : ∀ w ∈ lw_all, w.before _ s = true := fun w h => hts w (List.mem_cons_of_mem _ h)
  have hown : s.vm.findClass RX2 = some m.cls := findClass_of_methodNamed B.named
  have hlocks := B.notSynchronized
  subst hsz
  have hD := hD0.self (sz := s.heap.size)
  generalize hAe : va_A (ww_M a d n fW fC fX fZ wp wr) s.heap.size = A at hD ⊢
  have hA : ∀ q : Nat, s.heap.size ≤ q → A q := fun q h => by rw [← hAe]; exact Or.inr h
  have hS : va_S A s.heap s.heap [] := va_S.rf
  have hP : va_P D ww_cl (ww_M a d n fW fC fX fZ wp wr) s.heap := hP
  have hl := lv_entry ([.ref (a 0), .int r, .int q, .int k]) (n := 5) (Nat.le_of_ble_eq_true rfl)
  rw [lg_entry_eq]
  generalize (lg_sl ([.ref (a 0), .int r, .int q, .int k]) ++ List.replicate (5 - (lg_sl ([.ref (a 0), .int r, .int q, .int k])).length) Slot.unset).toArray = ls at hl ⊢
  have hl : lv_has ls 5 [(0, .ref (a 0)), (1, .int r), (2, .int q), (3, .int k)] := hl
  refine lv_aload_n hx hb dX2_cost_0 rfl (lv_at hl 0 rfl) ?_
  refine lv_iload_n hx hb dX2_cost_1 rfl (lv_at hl 1 rfl) ?_
  refine lv_iload_n hx hb dX2_cost_2 rfl (lv_at hl 2 rfl) ?_
  refine ww_ro (As := [.int r, .int q]) (rest := []) ⟨hx, hb, hml, hown, hts⟩ hK hP (metX2_isPlace l D a d n fW fC fX fZ wp wr r q) rfl rfl (cwV 2 hts (lw_V q186 q188 qs9 q21 q189) rfl rfl rfl (by decide +kernel) ⟨Nat.le_of_ble_eq_true rfl, Nat.le_of_ble_eq_true rfl⟩) rfl rfl (Nat.le_of_ble_eq_true rfl) hl.1 ⟨Nat.zero_le _, Nat.zero_le _⟩ dX2_cost_3 (fun r_3 h_3 => ?_)
  have h_3 : r_3 = ww_b2 (ww_isP n r q) := h_3
  subst h_3
  refine ww_if_eqB (tgt := 34) hx hb dX2_cost_6 (by decide) (fun c_6 => ?_) (fun c_6 => ?_)
  · refine lv_iconst (v := -1) hx hb dX2_cost_34 (by decide) ?_
    exact W.iret hx hb hret (fun t9 ht9 hW9 => ⟨⟨_, fC, rfl, ⟨fun h => (show False from c_6 h.1).elim, fun _ => ⟨rfl, rfl⟩⟩, by show va_P _ _ _ t9.heap; rw [ht9]; exact hP⟩, hS.F ht9⟩) hS.2.2 dX2_cost_35
  · obtain ⟨i, hi, rfl⟩ := ww_rng (by omega) c_6.1.1 c_6.1.2
    obtain ⟨j, hj, rfl⟩ := ww_rng (by omega) c_6.2.1 c_6.2.2
    have ei : (nI i).toNatClampNeg = i := nI_clamp (by omega)
    have ej : (nI j).toNatClampNeg = j := nI_clamp (by omega)
    refine lv_aload_n hx hb dX2_cost_9 rfl (lv_at hl 0 rfl) ?_
    refine ww_gM 1 q161 rfl hx hb hts hown hK hP dX2_cost_10 ?_
    refine lv_iconst (v := nI 4) hx hb dX2_cost_13 (by decide) ?_
    refine lv_iload_n hx hb dX2_cost_14 rfl (lv_at hl 1 rfl) ?_
    refine ww_imul hx hb dX2_cost_15 ?_
    refine lv_iload_n hx hb dX2_cost_16 rfl (lv_at hl 2 rfl) ?_
    refine ww_iadd hx hb dX2_cost_17 ?_
    refine ww_iald hx hb hK hP 1 0 rfl rfl dX2_cost_18 ?_
    refine lv_iconst (v := -1) hx hb dX2_cost_19 (by decide) ?_
    refine lv_icmp_eq (tgt := 34) hx hb dX2_cost_20 (by decide) (fun c_20 => ?_) (fun c_20 => ?_)
    · refine lv_iconst (v := -1) hx hb dX2_cost_34 (by decide) ?_
      exact W.iret hx hb hret (fun t9 ht9 hW9 => ⟨⟨_, fC, rfl, ⟨fun h => (show False from h.2.1 (by rw [ei, ej]; exact c_20)).elim, fun _ => ⟨rfl, rfl⟩⟩, by show va_P _ _ _ t9.heap; rw [ht9]; exact hP⟩, hS.F ht9⟩) hS.2.2 dX2_cost_35
    · refine lv_iload_n hx hb dX2_cost_23 rfl (lv_at hl 3 rfl) ?_
      refine lv_iconst (v := nI 1) hx hb dX2_cost_24 (by decide) ?_
      refine lv_icmp_lt (tgt := 34) hx hb dX2_cost_25 (by decide) (fun c_25 => ?_) (fun c_25 => ?_)
      · refine lv_iconst (v := -1) hx hb dX2_cost_34 (by decide) ?_
        exact W.iret hx hb hret (fun t9 ht9 hW9 => ⟨⟨_, fC, rfl, ⟨fun h => (show False from h.2.2.1 c_25).elim, fun _ => ⟨rfl, rfl⟩⟩, by show va_P _ _ _ t9.heap; rw [ht9]; exact hP⟩, hS.F ht9⟩) hS.2.2 dX2_cost_35
      · refine lv_iload_n hx hb dX2_cost_28 rfl (lv_at hl 3 rfl) ?_
        refine lv_bipush (v := nI 9) hx hb dX2_cost_29 (by decide) ?_
        refine lv_icmp_le (tgt := 36) hx hb dX2_cost_31 (by decide) (fun c_31 => ?_) (fun c_31 => ?_)
        · refine lv_aload_n hx hb dX2_cost_36 rfl (lv_at hl 0 rfl) ?_
          refine ww_gM 2 q162 rfl hx hb hts hown hK hP dX2_cost_37 ?_
          refine lv_iconst (v := nI 4) hx hb dX2_cost_40 (by decide) ?_
          refine lv_iload_n hx hb dX2_cost_41 rfl (lv_at hl 1 rfl) ?_
          refine ww_imul hx hb dX2_cost_42 ?_
          refine lv_iload_n hx hb dX2_cost_43 rfl (lv_at hl 2 rfl) ?_
          refine ww_iadd hx hb dX2_cost_44 ?_
          refine ww_iald hx hb hK hP 2 1 rfl rfl dX2_cost_45 ?_
          refine lv_istore (lv' := [(4, .int (fC ((4 * i) + j))), (0, .ref (a 0)), (1, .int (nI i)), (2, .int (nI j)), (3, .int k)]) hx hb dX2_cost_46 hl (by decide) rfl (fun ls hl => ?_)
          refine lv_aload_n hx hb dX2_cost_48 rfl (lv_at hl 1 rfl) ?_
          refine ww_gM 2 q162 rfl hx hb hts hown hK hP dX2_cost_49 ?_
          refine lv_iconst (v := nI 4) hx hb dX2_cost_52 (by decide) ?_
          refine lv_iload_n hx hb dX2_cost_53 rfl (lv_at hl 2 rfl) ?_
          refine ww_imul hx hb dX2_cost_54 ?_
          refine lv_iload_n hx hb dX2_cost_55 rfl (lv_at hl 3 rfl) ?_
          refine ww_iadd hx hb dX2_cost_56 ?_
          refine lv_iload_n hx hb dX2_cost_57 rfl (lv_at hl 4 rfl) ?_
          refine ww_iast hx hb hK hP hD hS 2 1 rfl rfl dX2_cost_58 (fun H locs hP hD hS => ?_)
          have hP : va_P D ww_cl (ww_M a d n fW (upd fC ((4 * i) + j) k) fX fZ wp wr) H := hP
          have hD : va_D A (ww_M a d n fW (upd fC ((4 * i) + j) k) fX fZ wp wr) := hD
          refine lv_iload hx hb dX2_cost_59 (lv_at hl 0 rfl) ?_
          exact W.iret hx hb hret (fun t9 ht9 hW9 => ⟨⟨_, (upd fC ((4 * i) + j) k), rfl, ⟨fun _ => ⟨by rw [ei, ej], by rw [ei, ej]⟩, fun h => absurd ⟨⟨⟨nI_pos (by omega), nI_ge hi (by omega)⟩, nI_pos (by omega), nI_ge hj (by omega)⟩, by rw [ei, ej]; exact c_20, c_25, c_31⟩ h⟩, by show va_P _ _ _ t9.heap; rw [ht9]; exact hP⟩, hS.F ht9⟩) hS.2.2 dX2_cost_61
        · refine lv_iconst (v := -1) hx hb dX2_cost_34 (by decide) ?_
          exact W.iret hx hb hret (fun t9 ht9 hW9 => ⟨⟨_, fC, rfl, ⟨fun h => (show False from c_31 h.2.2.2).elim, fun _ => ⟨rfl, rfl⟩⟩, by show va_P _ _ _ t9.heap; rw [ht9]; exact hP⟩, hS.F ht9⟩) hS.2.2 dX2_cost_35
set_option maxHeartbeats 4000000 in
set_option maxRecDepth 100000 in
theorem metX2_cut (l : Launch) (D : va_G) (a : Nat → Nat) (d : Nat → ClassId) (n : Nat) (fW fC fX fZ : Nat → Int32) (wp wr : Int32) (sz : Nat) (w : Int32) : Met l yX2_cut (ws_ yX2_cut cX2_cut 2 (some .boolean)) ({ frames := 1, cells := 0, slots := 0, locals := 20 }) (va_Pc [.ref (a 0), .int w] (ww_C D (ww_tM d) (ww_M a d n fW fC fX fZ wp wr) sz)) (va_Qi (fun (v : Int32) (u : (Nat → Int32)) => v = ww_b2 ((ww_isW w ∧ fX w.toNatClampNeg = 0)) ∧ ((ww_isW w ∧ fX w.toNatClampNeg = 0) → u = upd fX w.toNatClampNeg (nI 1)) ∧ (¬ ((ww_isW w ∧ fX w.toNatClampNeg = 0)) → u = fX)) (fun (u : (Nat → Int32)) t => va_P D ww_cl (ww_M a d n fW fC u fZ wp wr) t.heap) (va_A (ww_M a d n fW fC fX fZ wp wr) sz)) 0 0 (va_A (ww_M a d n fW fC fX fZ wp wr) sz) := by
  refine Met.ofW (cc := cX2_cut) (maxL := 2) (ret := (some .boolean)) (by decide) rfl ?_
  intro pr e s m args below meth c s₁ B hml hv
  obtain ⟨rfl, hsz, hP, hK, hD0⟩ := hv
  have hx := B.exec
  have hb := B.bytes
  have hret := B.returns
  have hts := atoms_spec (ws := (ws_ yX2_cut cX2_cut 2 (some .boolean))) B.pre
  have hts : ∀ w ∈ lw_all, w.before _ s = true := fun w h => hts w (List.mem_cons_of_mem _ h)
  have hown : s.vm.findClass RX2 = some m.cls := findClass_of_methodNamed B.named
  have hlocks := B.notSynchronized
  subst hsz
  have hD := hD0.self (sz := s.heap.size)
  generalize hAe : va_A (ww_M a d n fW fC fX fZ wp wr) s.heap.size = A at hD ⊢
  have hA : ∀ q : Nat, s.heap.size ≤ q → A q := fun q h => by rw [← hAe]; exact Or.inr h
  have hS : va_S A s.heap s.heap [] := va_S.rf
  have hP : va_P D ww_cl (ww_M a d n fW fC fX fZ wp wr) s.heap := hP
  have hl := lv_entry ([.ref (a 0), .int w]) (n := 2) (Nat.le_of_ble_eq_true rfl)
  rw [lg_entry_eq]
  generalize (lg_sl ([.ref (a 0), .int w]) ++ List.replicate (2 - (lg_sl ([.ref (a 0), .int w])).length) Slot.unset).toArray = ls at hl ⊢
  have hl : lv_has ls 2 [(0, .ref (a 0)), (1, .int w)] := hl
  refine lv_iload_n hx hb dX2_cut_0 rfl (lv_at hl 1 rfl) ?_
  refine ww_roS (As := [.int w]) (rest := []) ⟨hx, hb, hml, hown, hts⟩ (metX2_isWire l w) (va_cwS 1 hts (lw_S q194 q195 q21 q196) rfl rfl rfl (by decide +kernel) ⟨Nat.le_of_ble_eq_true rfl, Nat.le_of_ble_eq_true rfl⟩) rfl rfl (Nat.le_of_ble_eq_true rfl) hl.1 ⟨Nat.zero_le _, Nat.zero_le _⟩ dX2_cut_1 (fun r_1 h_1 => ?_)
  have h_1 : r_1 = ww_b2 (ww_isW w) := h_1
  subst h_1
  refine ww_if_eqB (tgt := 16) hx hb dX2_cut_4 (by decide) (fun c_4 => ?_) (fun c_4 => ?_)
  · refine lv_iconst (v := nI 0) hx hb dX2_cut_16 (by decide) ?_
    exact W.zret hx hb hret (rfl) (fun t9 ht9 hW9 => ⟨⟨_, fX, rfl, ⟨(ww_b2_f (fun h => c_4 h.1)).symm, fun h => (show False from c_4 h.1).elim, fun _ => rfl⟩, by show va_P _ _ _ t9.heap; rw [ht9]; exact hP⟩, hS.F ht9⟩) hS.2.2 dX2_cut_17
  · obtain ⟨x, hx9, rfl⟩ := ww_rng (by omega) c_4.1 c_4.2
    have ex : (nI x).toNatClampNeg = x := nI_clamp (by omega)
    refine lv_aload_n hx hb dX2_cut_7 rfl (lv_at hl 0 rfl) ?_
    refine ww_gM 3 q163 rfl hx hb hts hown hK hP dX2_cut_8 ?_
    refine lv_iload_n hx hb dX2_cut_11 rfl (lv_at hl 1 rfl) ?_
    refine ww_zald hx hb hK hP 3 2 rfl rfl dX2_cut_12 ?_
    refine lv_if_eq (tgt := 18) hx hb dX2_cut_13 (by decide) (fun c_13 => ?_) (fun c_13 => ?_)
    · refine lv_aload_n hx hb dX2_cut_18 rfl (lv_at hl 0 rfl) ?_
      refine ww_gM 3 q163 rfl hx hb hts hown hK hP dX2_cut_19 ?_
      refine lv_iload_n hx hb dX2_cut_22 rfl (lv_at hl 1 rfl) ?_
      refine lv_iconst (v := nI 1) hx hb dX2_cut_23 (by decide) ?_
      refine ww_zast hx hb hK hP hD hS 3 2 rfl rfl rfl dX2_cut_24 (fun H locs hP hD hS => ?_)
      have hP : va_P D ww_cl (ww_M a d n fW fC (upd fX x (nI 1)) fZ wp wr) H := hP
      have hD : va_D A (ww_M a d n fW fC (upd fX x (nI 1)) fZ wp wr) := hD
      refine lv_iconst (v := nI 1) hx hb dX2_cut_25 (by decide) ?_
      exact W.zret hx hb hret (rfl) (fun t9 ht9 hW9 => ⟨⟨_, (upd fX x (nI 1)), rfl, ⟨(ww_b2_t ⟨⟨nI_pos (by omega), nI_ge hx9 (by omega)⟩, by rw [ex]; exact c_13⟩).symm, fun _ => by rw [ex], fun h => absurd ⟨⟨nI_pos (by omega), nI_ge hx9 (by omega)⟩, by rw [ex]; exact c_13⟩ h⟩, by show va_P _ _ _ t9.heap; rw [ht9]; exact hP⟩, hS.F ht9⟩) hS.2.2 dX2_cut_26
    · refine lv_iconst (v := nI 0) hx hb dX2_cut_16 (by decide) ?_
      exact W.zret hx hb hret (rfl) (fun t9 ht9 hW9 => ⟨⟨_, fX, rfl, ⟨(ww_b2_f (fun h => c_13 (by have z := h.2; rw [ex] at z; exact z))).symm, fun h => (show False from c_13 (by have z := h.2; rw [ex] at z; exact z)).elim, fun _ => rfl⟩, by show va_P _ _ _ t9.heap; rw [ht9]; exact hP⟩, hS.F ht9⟩) hS.2.2 dX2_cut_17
set_option maxHeartbeats 4000000 in
set_option maxRecDepth 100000 in
theorem metX2_mend (l : Launch) (D : va_G) (a : Nat → Nat) (d : Nat → ClassId) (n : Nat) (fW fC fX fZ : Nat → Int32) (wp wr : Int32) (sz : Nat) (w : Int32) : Met l yX2_mend (ws_ yX2_mend cX2_mend 2 (some .boolean)) ({ frames := 1, cells := 0, slots := 0, locals := 20 }) (va_Pc [.ref (a 0), .int w] (ww_C D (ww_tM d) (ww_M a d n fW fC fX fZ wp wr) sz)) (va_Qi (fun (v : Int32) (u : (Nat → Int32)) => v = ww_b2 ((ww_isW w ∧ ¬ fX w.toNatClampNeg = 0)) ∧ ((ww_isW w ∧ ¬ fX w.toNatClampNeg = 0) → u = upd fX w.toNatClampNeg (nI 0)) ∧ (¬ ((ww_isW w ∧ ¬ fX w.toNatClampNeg = 0)) → u = fX)) (fun (u : (Nat → Int32)) t => va_P D ww_cl (ww_M a d n fW fC u fZ wp wr) t.heap) (va_A (ww_M a d n fW fC fX fZ wp wr) sz)) 0 0 (va_A (ww_M a d n fW fC fX fZ wp wr) sz) := by
  refine Met.ofW (cc := cX2_mend) (maxL := 2) (ret := (some .boolean)) (by decide) rfl ?_
  intro pr e s m args below meth c s₁ B hml hv
  obtain ⟨rfl, hsz, hP, hK, hD0⟩ := hv
  have hx := B.exec
  have hb := B.bytes
  have hret := B.returns
  have hts := atoms_spec (ws := (ws_ yX2_mend cX2_mend 2 (some .boolean))) B.pre
  have hts : ∀ w ∈ lw_all, w.before _ s = true := fun w h => hts w (List.mem_cons_of_mem _ h)
  have hown : s.vm.findClass RX2 = some m.cls := findClass_of_methodNamed B.named
  have hlocks := B.notSynchronized
  subst hsz
  have hD := hD0.self (sz := s.heap.size)
  generalize hAe : va_A (ww_M a d n fW fC fX fZ wp wr) s.heap.size = A at hD ⊢
  have hA : ∀ q : Nat, s.heap.size ≤ q → A q := fun q h => by rw [← hAe]; exact Or.inr h
  have hS : va_S A s.heap s.heap [] := va_S.rf
  have hP : va_P D ww_cl (ww_M a d n fW fC fX fZ wp wr) s.heap := hP
  have hl := lv_entry ([.ref (a 0), .int w]) (n := 2) (Nat.le_of_ble_eq_true rfl)
  rw [lg_entry_eq]
  generalize (lg_sl ([.ref (a 0), .int w]) ++ List.replicate (2 - (lg_sl ([.ref (a 0), .int w])).length) Slot.unset).toArray = ls at hl ⊢
  have hl : lv_has ls 2 [(0, .ref (a 0)), (1, .int w)] := hl
  refine lv_iload_n hx hb dX2_mend_0 rfl (lv_at hl 1 rfl) ?_
  refine ww_roS (As := [.int w]) (rest := []) ⟨hx, hb, hml, hown, hts⟩ (metX2_isWire l w) (va_cwS 1 hts (lw_S q194 q195 q21 q196) rfl rfl rfl (by decide +kernel) ⟨Nat.le_of_ble_eq_true rfl, Nat.le_of_ble_eq_true rfl⟩) rfl rfl (Nat.le_of_ble_eq_true rfl) hl.1 ⟨Nat.zero_le _, Nat.zero_le _⟩ dX2_mend_1 (fun r_1 h_1 => ?_)
  have h_1 : r_1 = ww_b2 (ww_isW w) := h_1
  subst h_1
  refine ww_if_eqB (tgt := 16) hx hb dX2_mend_4 (by decide) (fun c_4 => ?_) (fun c_4 => ?_)
  · refine lv_iconst (v := nI 0) hx hb dX2_mend_16 (by decide) ?_
    exact W.zret hx hb hret (rfl) (fun t9 ht9 hW9 => ⟨⟨_, fX, rfl, ⟨(ww_b2_f (fun h => c_4 h.1)).symm, fun h => (show False from c_4 h.1).elim, fun _ => rfl⟩, by show va_P _ _ _ t9.heap; rw [ht9]; exact hP⟩, hS.F ht9⟩) hS.2.2 dX2_mend_17
  · obtain ⟨x, hx9, rfl⟩ := ww_rng (by omega) c_4.1 c_4.2
    have ex : (nI x).toNatClampNeg = x := nI_clamp (by omega)
    refine lv_aload_n hx hb dX2_mend_7 rfl (lv_at hl 0 rfl) ?_
    refine ww_gM 3 q163 rfl hx hb hts hown hK hP dX2_mend_8 ?_
    refine lv_iload_n hx hb dX2_mend_11 rfl (lv_at hl 1 rfl) ?_
    refine ww_zald hx hb hK hP 3 2 rfl rfl dX2_mend_12 ?_
    refine lv_if_ne (tgt := 18) hx hb dX2_mend_13 (by decide) (fun c_13 => ?_) (fun c_13 => ?_)
    · refine lv_aload_n hx hb dX2_mend_18 rfl (lv_at hl 0 rfl) ?_
      refine ww_gM 3 q163 rfl hx hb hts hown hK hP dX2_mend_19 ?_
      refine lv_iload_n hx hb dX2_mend_22 rfl (lv_at hl 1 rfl) ?_
      refine lv_iconst (v := nI 0) hx hb dX2_mend_23 (by decide) ?_
      refine ww_zast hx hb hK hP hD hS 3 2 rfl rfl rfl dX2_mend_24 (fun H locs hP hD hS => ?_)
      have hP : va_P D ww_cl (ww_M a d n fW fC (upd fX x (nI 0)) fZ wp wr) H := hP
      have hD : va_D A (ww_M a d n fW fC (upd fX x (nI 0)) fZ wp wr) := hD
      refine lv_iconst (v := nI 1) hx hb dX2_mend_25 (by decide) ?_
      exact W.zret hx hb hret (rfl) (fun t9 ht9 hW9 => ⟨⟨_, (upd fX x (nI 0)), rfl, ⟨(ww_b2_t ⟨⟨nI_pos (by omega), nI_ge hx9 (by omega)⟩, by rw [ex]; exact c_13⟩).symm, fun _ => by rw [ex], fun h => absurd ⟨⟨nI_pos (by omega), nI_ge hx9 (by omega)⟩, by rw [ex]; exact c_13⟩ h⟩, by show va_P _ _ _ t9.heap; rw [ht9]; exact hP⟩, hS.F ht9⟩) hS.2.2 dX2_mend_26
    · refine lv_iconst (v := nI 0) hx hb dX2_mend_16 (by decide) ?_
      exact W.zret hx hb hret (rfl) (fun t9 ht9 hW9 => ⟨⟨_, fX, rfl, ⟨(ww_b2_f (fun h => h.2 (by rw [ex]; exact c_13))).symm, fun h => (show False from h.2 (by rw [ex]; exact c_13)).elim, fun _ => rfl⟩, by show va_P _ _ _ t9.heap; rw [ht9]; exact hP⟩, hS.F ht9⟩) hS.2.2 dX2_mend_17
end
section
/-! plain facts for better, best and reckon -/
/-- the distance of router r to aim a in the table F -/
def ww_g (F : Nat → Int32) (a r : Nat) : Nat := (F (26 * r + a)).toNatClampNeg
/-- the table on its way: numbers, and half a solution for every aim -/
def ww_fin (n : Nat) (W C X F : Nat → Int32) : Prop := (∀ r a, r < n → a < 26 → F (26 * r + a) = nI (ww_g F a r)) ∧ ∀ a, a < 26 → ww_hs 9999 n W C X a (ww_g F a)
/-- no link of r makes it less -/
def ww_row (n : Nat) (W C X F : Nat → Int32) (r : Nat) : Prop := ∀ p q t, p < 4 → q < n → t < 26 → ww_lk W X r p q → ww_g F t r ≤ ww_cs C r p + ww_g F t q
def ww_sm (F : Nat → Int32) : Nat → Nat
  | 0 => 0
  | k + 1 => ww_sm F k + (F k).toNatClampNeg
theorem ww_sm_out {F : Nat → Int32} {k : Nat} {v : Int32} : ∀ m, m ≤ k → ww_sm (upd F k v) m = ww_sm F m := by
  intro m
  induction m with
  | zero => intro _; rfl
  | succ m ih =>
    intro h
    unfold ww_sm
    rw [ih (by omega), pk_un (by omega)]
theorem ww_sm_lt {F : Nat → Int32} {k : Nat} {v : Int32} (hv : v.toNatClampNeg < (F k).toNatClampNeg) : ∀ m, k < m → ww_sm (upd F k v) m < ww_sm F m := by
  intro m
  induction m with
  | zero => intro h; omega
  | succ m ih =>
    intro h
    unfold ww_sm
    by_cases e : k = m
    · subst e
      rw [ww_sm_out k (Nat.le_refl _), pk_us]
      omega
    · rw [pk_un (by omega)]
      have := ih (by omega)
      omega
theorem ww_g_us {F : Nat → Int32} {r t v : Nat} (hv : v < 2 ^ 31) : ww_g (upd F (26 * r + t) (nI v)) t r = v := by
  unfold ww_g
  rw [pk_us, nI_clamp hv]
theorem ww_g_un {F : Nat → Int32} {r t x a : Nat} {v : Int32} (ht : t < 26) (ha : a < 26) (h : ¬ (x = r ∧ a = t)) : ww_g (upd F (26 * r + t) v) a x = ww_g F a x := by
  unfold ww_g
  rw [pk_un (by omega)]
/-- one link taken -/
theorem ww_fin_step {n : Nat} {W C X F : Nat → Int32} {r p q t : Nat} (hF : ww_fin n W C X F) (hr : r < n) (hp : p < 4) (hq : q < n) (ht : t < 26) (hl : ww_lk W X r p q) (hlt : ww_cs C r p + ww_g F t q < ww_g F t r) : ww_fin n W C X (upd F (26 * r + t) (nI (ww_cs C r p + ww_g F t q))) ∧ ww_sm (upd F (26 * r + t) (nI (ww_cs C r p + ww_g F t q))) 260 < ww_sm F 260 ∨ 10 < n := by
  by_cases hn : n ≤ 10
  · refine Or.inl ⟨⟨?_, ?_⟩, ?_⟩
    · intro x a hx ha
      have b := (hF.2 t ht).1 r hr
      by_cases e : x = r ∧ a = t
      · obtain ⟨rfl, rfl⟩ := e
        rw [ww_g_us (by omega), pk_us]
      · rw [ww_g_un ht ha e, pk_un (by omega)]
        exact hF.1 x a hx ha
    · intro a ha
      have b := (hF.2 t ht).1 r hr
      by_cases e : a = t
      · subst e
        exact ww_hs_step (hF.2 a ha) hr hp hq hl hlt (ww_g_us (by omega)) (fun x hx _ => ww_g_un ha ha (fun z => hx z.1))
      · have e2 : ∀ x, ww_g (upd F (26 * r + t) (nI (ww_cs C r p + ww_g F t q))) a x = ww_g F a x := fun x => ww_g_un ht ha (fun z => e z.2)
        have e3 : ww_g (upd F (26 * r + t) (nI (ww_cs C r p + ww_g F t q))) a = ww_g F a := funext e2
        rw [e3]
        exact hF.2 a ha
    · have b := (hF.2 t ht).1 r hr
      refine ww_sm_lt ?_ 260 (by omega)
      rw [nI_clamp (by omega)]
      exact hlt
  · exact Or.inr (by omega)
/-- better on its way: what is done of row r -/
def ww_bt (n : Nat) (W C X F0 : Nat → Int32) (r : Nat) (did : Int32) (F : Nat → Int32) (dn : Nat → Nat → Nat → Prop) : Prop := ww_fin n W C X F ∧ ((did = nI 0 ∧ F = F0 ∧ ∀ p q t, p < 4 → q < n → t < 26 → dn p q t → ww_lk W X r p q → ww_g F0 t r ≤ ww_cs C r p + ww_g F0 t q) ∨ (did = nI 1 ∧ ww_sm F 260 < ww_sm F0 260))
theorem ww_bt.mono {n : Nat} {W C X F0 : Nat → Int32} {r : Nat} {did : Int32} {F : Nat → Int32} {dn dn' : Nat → Nat → Nat → Prop} (h : ww_bt n W C X F0 r did F dn) (hd : ∀ p q t, p < 4 → q < n → t < 26 → dn' p q t → ww_lk W X r p q → dn p q t) : ww_bt n W C X F0 r did F dn' := by
  refine ⟨h.1, ?_⟩
  rcases h.2 with ⟨h1, h2, h3⟩ | h1
  · exact Or.inl ⟨h1, h2, fun p q t hp hq ht hn hl => h3 p q t hp hq ht (hd p q t hp hq ht hn hl) hl⟩
  · exact Or.inr h1
theorem ww_bt.take {n : Nat} {W C X F0 : Nat → Int32} {r : Nat} {did : Int32} {F : Nat → Int32} {dn dn' : Nat → Nat → Nat → Prop} (h : ww_bt n W C X F0 r did F dn) (hn : n ≤ 10) {p q t : Nat} (hr : r < n) (hp : p < 4) (hq : q < n) (ht : t < 26) (hl : ww_lk W X r p q) (hlt : ww_cs C r p + ww_g F t q < ww_g F t r) : ww_bt n W C X F0 r (nI 1) (upd F (26 * r + t) (nI (ww_cs C r p + ww_g F t q))) dn' := by
  rcases ww_fin_step h.1 hr hp hq ht hl hlt with ⟨h1, h2⟩ | h1
  · refine ⟨h1, Or.inr ⟨rfl, ?_⟩⟩
    rcases h.2 with ⟨-, e, -⟩ | ⟨-, e⟩
    · rw [← e]; exact h2
    · omega
  · omega
theorem ww_bt.leave {n : Nat} {W C X F0 : Nat → Int32} {r : Nat} {did : Int32} {F : Nat → Int32} {dn dn' : Nat → Nat → Nat → Prop} (h : ww_bt n W C X F0 r did F dn) {p q t : Nat} (hlt : ww_g F t r ≤ ww_cs C r p + ww_g F t q) (hd : ∀ p' q' t', p' < 4 → q' < n → t' < 26 → dn' p' q' t' → dn p' q' t' ∨ (p' = p ∧ q' = q ∧ t' = t)) : ww_bt n W C X F0 r did F dn' := by
  refine ⟨h.1, ?_⟩
  rcases h.2 with ⟨h1, h2, h3⟩ | h1
  · refine Or.inl ⟨h1, h2, fun p' q' t' hp hq ht hn hl => ?_⟩
    rcases hd p' q' t' hp hq ht hn with z | ⟨rfl, rfl, rfl⟩
    · exact h3 p' q' t' hp hq ht z hl
    · rw [← h2]; exact hlt
  · exact Or.inr h1
/-- which triples are done: ports below p; of p routers below q; of q aims below t -/
abbrev ww_dn (p q t : Nat) : Nat → Nat → Nat → Prop := fun p' q' t' => p' < p ∨ (p' = p ∧ (q' < q ∨ (q' = q ∧ t' < t)))
theorem ww_val_at {n : Nat} {W C X : Nat → Int32} {G : Nat → Nat} {r p q : Nat} (hq : q < n) : ww_val n W C X G r (n * p + q) = if ww_lk W X r p q then ww_cs C r p + G q else 9999 := by
  unfold ww_val
  rw [Nat.mul_add_div (by omega), Nat.mul_add_mod, Nat.div_eq_of_lt hq, Nat.mod_eq_of_lt hq, Nat.add_zero]
theorem ww_pv_le {v : Nat → Nat} {K : Nat} : ww_pv 9999 v K ≤ 9999 := by
  unfold ww_pv
  cases h : ww_pk v K with
  | none => exact Nat.le_refl _
  | some j => exact Nat.le_of_lt (ww_pk_lt h).2
theorem ww_pv_same {I : Nat} {v : Nat → Nat} {K L : Nat} (h : ww_pk v K = ww_pk v L) : ww_pv I v K = ww_pv I v L := by
  unfold ww_pv
  rw [h]
theorem ww_pv_take {I : Nat} {v : Nat → Nat} {K k : Nat} (h : ww_pk v K = some k) : ww_pv I v K = v k := by
  unfold ww_pv
  rw [h]
theorem ww_enc_at {n p q : Nat} (hq : q < n) : ww_enc n (some (n * p + q)) = nI (16 * p + q) := by
  show nI (16 * ((n * p + q) / n) + (n * p + q) % n) = _
  rw [Nat.mul_add_div (by omega), Nat.mul_add_mod, Nat.div_eq_of_lt hq, Nat.mod_eq_of_lt hq, Nat.add_zero]
/-- a port that isn't up: its n pairs change nothing -/
theorem ww_pk_down {n : Nat} {W C X : Nat → Int32} {G : Nat → Nat} {r p : Nat} (h : ¬ ww_up W X r p) : ww_pk (ww_val n W C X G r) (n * (p + 1)) = ww_pk (ww_val n W C X G r) (n * p) := by
  rw [Nat.mul_add, Nat.mul_one]
  refine ww_pk_skip (fun k h1 h2 => ?_)
  obtain ⟨q, rfl⟩ : ∃ q, k = n * p + q := ⟨k - n * p, by omega⟩
  rw [ww_val_at (by omega), if_neg (fun z => h z.1)]
  exact Nat.le_refl _
end
section
/-! better, best -/
set_option maxHeartbeats 4000000 in
set_option maxRecDepth 100000 in
theorem metX1_better (l : Launch) (D : va_G) (a : Nat → Nat) (d : Nat → ClassId) (n : Nat) (fW fC fP fX fF fY : Nat → Int32) (ol pl cu : Int32) (sz : Nat) (r : Nat) (hn : n ≤ 10) (hN : ww_net fW fC fX) (hpin : ww_pin fW fP) (hr : r < n) (hF0 : ww_fin n fW fC fX fF) : Met l yX1_better (ws_ yX1_better cX1_better 8 (some .boolean)) ({ frames := 1, cells := 0, slots := 0, locals := 23 }) (va_Pc [.ref (a 0), .int (nI r)] (ww_C D (ww_tX d) (ww_X a d n fW fC fP fX fF fY ol pl cu) sz)) (va_Qi (fun (v : Int32) (u : (Nat → Int32)) => ww_fin n fW fC fX u ∧ ((v = nI 0 ∧ u = fF ∧ ww_row n fW fC fX fF r) ∨ (v = nI 1 ∧ ww_sm u 260 < ww_sm fF 260))) (fun (u : (Nat → Int32)) t => va_P D ww_cl (ww_X a d n fW fC fP fX u fY ol pl cu) t.heap) (va_A (ww_X a d n fW fC fP fX fF fY ol pl cu) sz)) 0 0 (va_A (ww_X a d n fW fC fP fX fF fY ol pl cu) sz) := by
  refine Met.ofW (cc := cX1_better) (maxL := 8) (ret := (some .boolean)) (by decide) rfl ?_
  intro pr e s m args below meth c s₁ B hml hv
  obtain ⟨rfl, hsz, hP, hK, hD0⟩ := hv
  have hx := B.exec
  have hb := B.bytes
  have hret := B.returns
  have hts := atoms_spec (ws := (ws_ yX1_better cX1_better 8 (some .boolean))) B.pre
  have hts : ∀ w ∈ lw_all, w.before _ s = true := fun w h => hts w (List.mem_cons_of_mem _ h)
  have hown : s.vm.findClass RX1 = some m.cls := findClass_of_methodNamed B.named
  have hlocks := B.notSynchronized
  subst hsz
  have hD := hD0.self (sz := s.heap.size)
  generalize hAe : va_A (ww_X a d n fW fC fP fX fF fY ol pl cu) s.heap.size = A at hD ⊢
  have hA : ∀ q : Nat, s.heap.size ≤ q → A q := fun q h => by rw [← hAe]; exact Or.inr h
  have hS : va_S A s.heap s.heap [] := va_S.rf
  have hP : va_P D ww_cl (ww_X a d n fW fC fP fX fF fY ol pl cu) s.heap := hP
  have hl := lv_entry ([.ref (a 0), .int (nI r)]) (n := 8) (Nat.le_of_ble_eq_true rfl)
  rw [lg_entry_eq]
  generalize (lg_sl ([.ref (a 0), .int (nI r)]) ++ List.replicate (8 - (lg_sl ([.ref (a 0), .int (nI r)])).length) Slot.unset).toArray = ls at hl ⊢
  have hl : lv_has ls 8 [(0, .ref (a 0)), (1, .int (nI r))] := hl
  have loopA : ∀ (p q w : Nat), p < 4 → q < n → ww_lk fW fX r p q → (∀ (did : Int32) (F : Nat → Int32), ww_bt n fW fC fX fF r did F (ww_dn p (q + 1) 0) → ∀ (H : Heap) (locs : List Loc), va_P D ww_cl (ww_X a d n fW fC fP fX F fY ol pl cu) H → va_D A (ww_X a d n fW fC fP fX F fY ol pl cu) → va_S A s.heap H locs → ∀ (ls : Array Slot), lv_has ls 8 [(0, .ref (a 0)), (1, .int (nI r)), (2, .int did), (3, .int (nI p)), (4, .int (nI w)), (5, .int (nI q))] → W pr l e (headSpec (ws_ yX1_better cX1_better 8 (some .boolean)) ({ frames := 1, cells := 0, slots := 0, locals := 23 })).room s m ([.ref (a 0), .int (nI r)] : List Value).toArray below meth c H locs 0 0 (MQ below (va_Qi (fun (v : Int32) (u : (Nat → Int32)) => ww_fin n fW fC fX u ∧ ((v = nI 0 ∧ u = fF ∧ ww_row n fW fC fX fF r) ∨ (v = nI 1 ∧ ww_sm u 260 < ww_sm fF 260))) (fun (u : (Nat → Int32)) t => va_P D ww_cl (ww_X a d n fW fC fP fX u fY ol pl cu) t.heap) A) ([.ref (a 0), .int (nI r)] : List Value).toArray s 0 0 A) (F0 m 146 ls [])) → ∀ (k t : Nat), t ≤ 26 → 27 ≤ t + k → ∀ (did : Int32) (F : Nat → Int32), ww_bt n fW fC fX fF r did F (ww_dn p q t) → ∀ (H : Heap) (locs : List Loc), va_P D ww_cl (ww_X a d n fW fC fP fX F fY ol pl cu) H → va_D A (ww_X a d n fW fC fP fX F fY ol pl cu) → va_S A s.heap H locs → ∀ (ls : Array Slot), lv_has ls 8 [(0, .ref (a 0)), (1, .int (nI r)), (2, .int did), (3, .int (nI p)), (4, .int (nI w)), (5, .int (nI q)), (6, .int (nI t))] → W pr l e (headSpec (ws_ yX1_better cX1_better 8 (some .boolean)) ({ frames := 1, cells := 0, slots := 0, locals := 23 })).room s m ([.ref (a 0), .int (nI r)] : List Value).toArray below meth c H locs 0 0 (MQ below (va_Qi (fun (v : Int32) (u : (Nat → Int32)) => ww_fin n fW fC fX u ∧ ((v = nI 0 ∧ u = fF ∧ ww_row n fW fC fX fF r) ∨ (v = nI 1 ∧ ww_sm u 260 < ww_sm fF 260))) (fun (u : (Nat → Int32)) t => va_P D ww_cl (ww_X a d n fW fC fP fX u fY ol pl cu) t.heap) A) ([.ref (a 0), .int (nI r)] : List Value).toArray s 0 0 A) (F0 m 74 ls []) := by
    intro p q w hp hq hlk kont k
    induction k with
    | zero => intro t h1 h2; exact absurd h2 (by omega)
    | succ k ih =>
      intro t h1 h2 did F hB H locs hP hD hS ls hl
      refine lv_iload hx hb dX1_better_74 (lv_at hl 6 rfl) ?_
      refine lv_bipush (v := nI 26) hx hb dX1_better_76 (by decide) ?_
      refine ww_icmp_ge (tgt := 146) hx hb dX1_better_78 (by decide) (fun c_78 => ?_) (fun c_78 => ?_)
      · exact kont did F (hB.mono (fun p2 q2 t2 _ _ _ z _ => by omega)) _ _ hP hD hS ls (lv_sub hl [0, 1, 2, 3, 4, 5] rfl)
      · have hcs := ww_net_c hN hn hr hp hlk.1.1
        have hg1 := (hB.1.2 t c_78).1 q hq
        have hg2 := (hB.1.2 t c_78).1 r hr
        refine lv_aload_n hx hb dX1_better_81 rfl (lv_at hl 0 rfl) ?_
        refine ww_gX 2 q38 rfl hx hb hts hown hK hP dX1_better_82 ?_
        refine lv_iload_n hx hb dX1_better_85 rfl (lv_at hl 1 rfl) ?_
        refine lv_iconst (v := nI 4) hx hb dX1_better_86 (by decide) ?_
        refine ww_imulc hx hb dX1_better_87 ?_
        refine lv_iload_n hx hb dX1_better_88 rfl (lv_at hl 3 rfl) ?_
        refine ww_iadd hx hb dX1_better_89 ?_
        refine ww_iald hx hb hK hP 2 1 rfl rfl dX1_better_90 ?_
        refine ww_top (hcs.2.2) ?_
        refine lv_aload_n hx hb dX1_better_91 rfl (lv_at hl 0 rfl) ?_
        refine ww_gX 5 q41 rfl hx hb hts hown hK hP dX1_better_92 ?_
        refine lv_iload hx hb dX1_better_95 (lv_at hl 5 rfl) ?_
        refine lv_bipush (v := nI 26) hx hb dX1_better_97 (by decide) ?_
        refine ww_imulc hx hb dX1_better_99 ?_
        refine lv_iload hx hb dX1_better_100 (lv_at hl 6 rfl) ?_
        refine ww_iadd hx hb dX1_better_102 ?_
        refine ww_iald hx hb hK hP 5 4 rfl rfl dX1_better_103 ?_
        refine ww_top (hB.1.1 q t hq c_78) ?_
        refine ww_iadd hx hb dX1_better_104 ?_
        refine lv_istore (lv' := [(7, .int (nI ((ww_cs fC r p) + (ww_g F t q)))), (0, .ref (a 0)), (1, .int (nI r)), (2, .int did), (3, .int (nI p)), (4, .int (nI w)), (5, .int (nI q)), (6, .int (nI t))]) hx hb dX1_better_105 hl (by decide) rfl (fun ls hl => ?_)
        refine lv_iload hx hb dX1_better_107 (lv_at hl 0 rfl) ?_
        refine lv_aload_n hx hb dX1_better_109 rfl (lv_at hl 1 rfl) ?_
        refine ww_gX 5 q41 rfl hx hb hts hown hK hP dX1_better_110 ?_
        refine lv_iload_n hx hb dX1_better_113 rfl (lv_at hl 2 rfl) ?_
        refine lv_bipush (v := nI 26) hx hb dX1_better_114 (by decide) ?_
        refine ww_imulc hx hb dX1_better_116 ?_
        refine lv_iload hx hb dX1_better_117 (lv_at hl 7 rfl) ?_
        refine ww_iadd hx hb dX1_better_119 ?_
        refine ww_iald hx hb hK hP 5 4 rfl rfl dX1_better_120 ?_
        refine ww_top (hB.1.1 r t hr c_78) ?_
        refine ww_icmp_ge (tgt := 140) hx hb dX1_better_121 (by decide) (fun c_121 => ?_) (fun c_121 => ?_)
        · refine lv_iinc (v := nI (t + 1)) (lv' := [(6, .int (nI (t + 1))), (7, .int (nI ((ww_cs fC r p) + (ww_g F t q)))), (0, .ref (a 0)), (1, .int (nI r)), (2, .int did), (3, .int (nI p)), (4, .int (nI w)), (5, .int (nI q))]) hx hb dX1_better_140 hl (k := 7) rfl (ww_inc t) (by decide) rfl (fun ls hl => ?_)
          refine lv_goto (tgt := 74) hx hb dX1_better_143 (by decide) ?_
          exact ih (t + 1) (by omega) (by omega) did F (hB.leave c_121 (fun p2 q2 t2 _ _ _ z => by omega)) _ _ hP hD hS ls (lv_sub hl [2, 3, 4, 5, 6, 7, 0] rfl)
        · refine lv_aload_n hx hb dX1_better_124 rfl (lv_at hl 1 rfl) ?_
          refine ww_gX 5 q41 rfl hx hb hts hown hK hP dX1_better_125 ?_
          refine lv_iload_n hx hb dX1_better_128 rfl (lv_at hl 2 rfl) ?_
          refine lv_bipush (v := nI 26) hx hb dX1_better_129 (by decide) ?_
          refine ww_imulc hx hb dX1_better_131 ?_
          refine lv_iload hx hb dX1_better_132 (lv_at hl 7 rfl) ?_
          refine ww_iadd hx hb dX1_better_134 ?_
          refine lv_iload hx hb dX1_better_135 (lv_at hl 0 rfl) ?_
          refine ww_iast hx hb hK hP hD hS 5 4 rfl rfl dX1_better_137 (fun H locs hP hD hS => ?_)
          have hP : va_P D ww_cl (ww_X a d n fW fC fP fX (upd F ((26 * r) + t) (nI ((ww_cs fC r p) + (ww_g F t q)))) fY ol pl cu) H := hP
          have hD : va_D A (ww_X a d n fW fC fP fX (upd F ((26 * r) + t) (nI ((ww_cs fC r p) + (ww_g F t q)))) fY ol pl cu) := hD
          refine lv_iconst (v := nI 1) hx hb dX1_better_138 (by decide) ?_
          refine lv_istore_n (lv' := [(2, .int (nI 1)), (7, .int (nI ((ww_cs fC r p) + (ww_g F t q)))), (0, .ref (a 0)), (1, .int (nI r)), (3, .int (nI p)), (4, .int (nI w)), (5, .int (nI q)), (6, .int (nI t))]) hx hb dX1_better_139 rfl hl (by decide) rfl (fun ls hl => ?_)
          refine lv_iinc (v := nI (t + 1)) (lv' := [(6, .int (nI (t + 1))), (2, .int (nI 1)), (7, .int (nI ((ww_cs fC r p) + (ww_g F t q)))), (0, .ref (a 0)), (1, .int (nI r)), (3, .int (nI p)), (4, .int (nI w)), (5, .int (nI q))]) hx hb dX1_better_140 hl (k := 7) rfl (ww_inc t) (by decide) rfl (fun ls hl => ?_)
          refine lv_goto (tgt := 74) hx hb dX1_better_143 (by decide) ?_
          exact ih (t + 1) (by omega) (by omega) (nI 1) _ (hB.take hn hr hp hq c_78 hlk c_121) _ _ hP hD hS ls (lv_sub hl [3, 4, 1, 5, 6, 7, 0] rfl)
  have loopB : ∀ (p w : Nat), p < 4 → ww_up fW fX r p → w < 16 → fW (4 * r + p) = nI w → (∀ (did : Int32) (F : Nat → Int32), ww_bt n fW fC fX fF r did F (ww_dn (p + 1) 0 0) → ∀ (H : Heap) (locs : List Loc), va_P D ww_cl (ww_X a d n fW fC fP fX F fY ol pl cu) H → va_D A (ww_X a d n fW fC fP fX F fY ol pl cu) → va_S A s.heap H locs → ∀ (ls : Array Slot), lv_has ls 8 [(0, .ref (a 0)), (1, .int (nI r)), (2, .int did), (3, .int (nI p))] → W pr l e (headSpec (ws_ yX1_better cX1_better 8 (some .boolean)) ({ frames := 1, cells := 0, slots := 0, locals := 23 })).room s m ([.ref (a 0), .int (nI r)] : List Value).toArray below meth c H locs 0 0 (MQ below (va_Qi (fun (v : Int32) (u : (Nat → Int32)) => ww_fin n fW fC fX u ∧ ((v = nI 0 ∧ u = fF ∧ ww_row n fW fC fX fF r) ∨ (v = nI 1 ∧ ww_sm u 260 < ww_sm fF 260))) (fun (u : (Nat → Int32)) t => va_P D ww_cl (ww_X a d n fW fC fP fX u fY ol pl cu) t.heap) A) ([.ref (a 0), .int (nI r)] : List Value).toArray s 0 0 A) (F0 m 152 ls [])) → ∀ (k q : Nat), q ≤ n → n + 1 ≤ q + k → ∀ (did : Int32) (F : Nat → Int32), ww_bt n fW fC fX fF r did F (ww_dn p q 0) → ∀ (H : Heap) (locs : List Loc), va_P D ww_cl (ww_X a d n fW fC fP fX F fY ol pl cu) H → va_D A (ww_X a d n fW fC fP fX F fY ol pl cu) → va_S A s.heap H locs → ∀ (ls : Array Slot), lv_has ls 8 [(0, .ref (a 0)), (1, .int (nI r)), (2, .int did), (3, .int (nI p)), (4, .int (nI w)), (5, .int (nI q))] → W pr l e (headSpec (ws_ yX1_better cX1_better 8 (some .boolean)) ({ frames := 1, cells := 0, slots := 0, locals := 23 })).room s m ([.ref (a 0), .int (nI r)] : List Value).toArray below meth c H locs 0 0 (MQ below (va_Qi (fun (v : Int32) (u : (Nat → Int32)) => ww_fin n fW fC fX u ∧ ((v = nI 0 ∧ u = fF ∧ ww_row n fW fC fX fF r) ∨ (v = nI 1 ∧ ww_sm u 260 < ww_sm fF 260))) (fun (u : (Nat → Int32)) t => va_P D ww_cl (ww_X a d n fW fC fP fX u fY ol pl cu) t.heap) A) ([.ref (a 0), .int (nI r)] : List Value).toArray s 0 0 A) (F0 m 36 ls []) := by
    intro p w hp hup hw ew kont k
    induction k with
    | zero => intro q h1 h2; exact absurd h2 (by omega)
    | succ k ih =>
      intro q h1 h2 did F hB H locs hP hD hS ls hl
      refine lv_iload hx hb dX1_better_36 (lv_at hl 5 rfl) ?_
      refine lv_aload_n hx hb dX1_better_38 rfl (lv_at hl 0 rfl) ?_
      refine ww_gX 0 q36 rfl hx hb hts hown hK hP dX1_better_39 ?_
      refine ww_icmp_ge (tgt := 152) hx hb dX1_better_42 (by decide) (fun c_42 => ?_) (fun c_42 => ?_)
      · exact kont did F (hB.mono (fun p2 q2 t2 _ _ _ z _ => by omega)) _ _ hP hD hS ls (lv_sub hl [0, 1, 2, 3] rfl)
      · have k146 : ∀ (did : Int32) (F : Nat → Int32), ww_bt n fW fC fX fF r did F (ww_dn p (q + 1) 0) → ∀ (H : Heap) (locs : List Loc), va_P D ww_cl (ww_X a d n fW fC fP fX F fY ol pl cu) H → va_D A (ww_X a d n fW fC fP fX F fY ol pl cu) → va_S A s.heap H locs → ∀ (ls : Array Slot), lv_has ls 8 [(0, .ref (a 0)), (1, .int (nI r)), (2, .int did), (3, .int (nI p)), (4, .int (nI w)), (5, .int (nI q))] → W pr l e (headSpec (ws_ yX1_better cX1_better 8 (some .boolean)) ({ frames := 1, cells := 0, slots := 0, locals := 23 })).room s m ([.ref (a 0), .int (nI r)] : List Value).toArray below meth c H locs 0 0 (MQ below (va_Qi (fun (v : Int32) (u : (Nat → Int32)) => ww_fin n fW fC fX u ∧ ((v = nI 0 ∧ u = fF ∧ ww_row n fW fC fX fF r) ∨ (v = nI 1 ∧ ww_sm u 260 < ww_sm fF 260))) (fun (u : (Nat → Int32)) t => va_P D ww_cl (ww_X a d n fW fC fP fX u fY ol pl cu) t.heap) A) ([.ref (a 0), .int (nI r)] : List Value).toArray s 0 0 A) (F0 m 146 ls []) := by
          intro did F hB H locs hP hD hS ls hl
          refine lv_iinc (v := nI (q + 1)) (lv' := [(5, .int (nI (q + 1))), (0, .ref (a 0)), (1, .int (nI r)), (2, .int did), (3, .int (nI p)), (4, .int (nI w))]) hx hb dX1_better_146 hl (k := 5) rfl (ww_inc q) (by decide) rfl (fun ls hl => ?_)
          refine lv_goto (tgt := 36) hx hb dX1_better_149 (by decide) ?_
          exact ih (q + 1) (by omega) (by omega) did F hB _ _ hP hD hS ls (lv_sub hl [1, 2, 3, 4, 5, 0] rfl)
        refine lv_iload hx hb dX1_better_45 (lv_at hl 5 rfl) ?_
        refine lv_iload_n hx hb dX1_better_47 rfl (lv_at hl 1 rfl) ?_
        refine ww_icmp_eq (tgt := 146) hx hb dX1_better_48 (by decide) (fun c_48 => ?_) (fun c_48 => ?_)
        · exact k146 did F (hB.mono (fun p2 q2 t2 _ _ _ z z2 => by
            rcases (show p2 < p ∨ (p2 = p ∧ q2 < q) ∨ (p2 = p ∧ q2 = q) by omega) with y | y | ⟨rfl, rfl⟩
            · exact Or.inl y
            · exact Or.inr ⟨y.1, Or.inl y.2⟩
            · exact absurd (z2.2.1 (by omega)) (fun h => h))) _ _ hP hD hS ls (lv_sub hl [0, 1, 2, 3, 4, 5] rfl)
        · refine lv_aload_n hx hb dX1_better_51 rfl (lv_at hl 0 rfl) ?_
          refine ww_gX 3 q39 rfl hx hb hts hown hK hP dX1_better_52 ?_
          refine lv_iload hx hb dX1_better_55 (lv_at hl 5 rfl) ?_
          refine lv_bipush (v := nI 16) hx hb dX1_better_57 (by decide) ?_
          refine ww_imulc hx hb dX1_better_59 ?_
          refine lv_iload hx hb dX1_better_60 (lv_at hl 4 rfl) ?_
          refine ww_iadd hx hb dX1_better_62 ?_
          refine ww_iald hx hb hK hP 3 2 rfl rfl dX1_better_63 ?_
          refine ww_top (hpin q w (by omega) hw) ?_
          refine lv_iconst (v := -1) hx hb dX1_better_64 (by decide) ?_
          refine lv_icmp_ne (tgt := 71) hx hb dX1_better_65 (by decide) (fun c_65 => ?_) (fun c_65 => ?_)
          · refine lv_iconst (v := nI 0) hx hb dX1_better_71 (by decide) ?_
            refine lv_istore (lv' := [(6, .int (nI 0)), (0, .ref (a 0)), (1, .int (nI r)), (2, .int did), (3, .int (nI p)), (4, .int (nI w)), (5, .int (nI q))]) hx hb dX1_better_72 hl (by decide) rfl (fun ls hl => ?_)
            exact loopA p q w hp c_42 ⟨hup, fun z => c_48 z, by rw [ew]; exact c_65⟩ k146 27 0 (by omega) (by omega) did F (hB.mono (fun p2 q2 t2 _ _ _ z _ => by omega)) _ _ hP hD hS ls (lv_sub hl [1, 2, 3, 4, 5, 6, 0] rfl)
          · refine lv_goto (tgt := 146) hx hb dX1_better_68 (by decide) ?_
            exact k146 did F (hB.mono (fun p2 q2 t2 _ _ _ z z2 => by
              rcases (show p2 < p ∨ (p2 = p ∧ q2 < q) ∨ (p2 = p ∧ q2 = q) by omega) with y | y | ⟨rfl, rfl⟩
              · exact Or.inl y
              · exact Or.inr ⟨y.1, Or.inl y.2⟩
              · exact absurd (z2.2.2 (by rw [ew]; exact c_65)) (fun h => h))) _ _ hP hD hS ls (lv_sub hl [0, 1, 2, 3, 4, 5] rfl)
  have loopC : ∀ (k p : Nat), p ≤ 4 → 5 ≤ p + k → ∀ (did : Int32) (F : Nat → Int32), ww_bt n fW fC fX fF r did F (ww_dn p 0 0) → ∀ (H : Heap) (locs : List Loc), va_P D ww_cl (ww_X a d n fW fC fP fX F fY ol pl cu) H → va_D A (ww_X a d n fW fC fP fX F fY ol pl cu) → va_S A s.heap H locs → ∀ (ls : Array Slot), lv_has ls 8 [(0, .ref (a 0)), (1, .int (nI r)), (2, .int did), (3, .int (nI p))] → W pr l e (headSpec (ws_ yX1_better cX1_better 8 (some .boolean)) ({ frames := 1, cells := 0, slots := 0, locals := 23 })).room s m ([.ref (a 0), .int (nI r)] : List Value).toArray below meth c H locs 0 0 (MQ below (va_Qi (fun (v : Int32) (u : (Nat → Int32)) => ww_fin n fW fC fX u ∧ ((v = nI 0 ∧ u = fF ∧ ww_row n fW fC fX fF r) ∨ (v = nI 1 ∧ ww_sm u 260 < ww_sm fF 260))) (fun (u : (Nat → Int32)) t => va_P D ww_cl (ww_X a d n fW fC fP fX u fY ol pl cu) t.heap) A) ([.ref (a 0), .int (nI r)] : List Value).toArray s 0 0 A) (F0 m 4 ls []) := by
    intro k
    induction k with
    | zero => intro p h1 h2; exact absurd h2 (by omega)
    | succ k ih =>
      intro p h1 h2 did F hB H locs hP hD hS ls hl
      refine lv_iload_n hx hb dX1_better_4 rfl (lv_at hl 3 rfl) ?_
      refine lv_iconst (v := nI 4) hx hb dX1_better_5 (by decide) ?_
      refine ww_icmp_ge (tgt := 158) hx hb dX1_better_6 (by decide) (fun c_6 => ?_) (fun c_6 => ?_)
      · have hv : did = nI 0 ∨ did = nI 1 := by rcases hB.2 with z | z; exact Or.inl z.1; exact Or.inr z.1
        have hnar : narrow .boolean (.int did) = .int did := by rcases hv with z | z <;> rw [z] <;> rfl
        refine lv_iload_n hx hb dX1_better_158 rfl (lv_at hl 2 rfl) ?_
        exact W.zret hx hb hret (hnar) (fun t9 ht9 hW9 => ⟨⟨_, F, rfl, ⟨hB.1, by rcases hB.2 with ⟨z1, z2, z3⟩ | z; exact Or.inl ⟨z1, z2, fun p2 q2 t2 y1 y2 y3 y4 => z3 p2 q2 t2 y1 y2 y3 (by omega) y4⟩; exact Or.inr z⟩, by show va_P _ _ _ t9.heap; rw [ht9]; exact hP⟩, hS.F ht9⟩) hS.2.2 dX1_better_159
      · have k152 : ∀ (did : Int32) (F : Nat → Int32), ww_bt n fW fC fX fF r did F (ww_dn (p + 1) 0 0) → ∀ (H : Heap) (locs : List Loc), va_P D ww_cl (ww_X a d n fW fC fP fX F fY ol pl cu) H → va_D A (ww_X a d n fW fC fP fX F fY ol pl cu) → va_S A s.heap H locs → ∀ (ls : Array Slot), lv_has ls 8 [(0, .ref (a 0)), (1, .int (nI r)), (2, .int did), (3, .int (nI p))] → W pr l e (headSpec (ws_ yX1_better cX1_better 8 (some .boolean)) ({ frames := 1, cells := 0, slots := 0, locals := 23 })).room s m ([.ref (a 0), .int (nI r)] : List Value).toArray below meth c H locs 0 0 (MQ below (va_Qi (fun (v : Int32) (u : (Nat → Int32)) => ww_fin n fW fC fX u ∧ ((v = nI 0 ∧ u = fF ∧ ww_row n fW fC fX fF r) ∨ (v = nI 1 ∧ ww_sm u 260 < ww_sm fF 260))) (fun (u : (Nat → Int32)) t => va_P D ww_cl (ww_X a d n fW fC fP fX u fY ol pl cu) t.heap) A) ([.ref (a 0), .int (nI r)] : List Value).toArray s 0 0 A) (F0 m 152 ls []) := by
          intro did F hB H locs hP hD hS ls hl
          refine lv_iinc (v := nI (p + 1)) (lv' := [(3, .int (nI (p + 1))), (0, .ref (a 0)), (1, .int (nI r)), (2, .int did)]) hx hb dX1_better_152 hl (k := 3) rfl (ww_inc p) (by decide) rfl (fun ls hl => ?_)
          refine lv_goto (tgt := 4) hx hb dX1_better_155 (by decide) ?_
          exact ih (p + 1) (by omega) (by omega) did F hB _ _ hP hD hS ls (lv_sub hl [1, 2, 3, 0] rfl)
        refine lv_aload_n hx hb dX1_better_9 rfl (lv_at hl 0 rfl) ?_
        refine lv_iload_n hx hb dX1_better_10 rfl (lv_at hl 1 rfl) ?_
        refine lv_iload_n hx hb dX1_better_11 rfl (lv_at hl 3 rfl) ?_
        refine ww_ro (As := [.int (nI r), .int (nI p)]) (rest := []) ⟨hx, hb, hml, hown, hts⟩ hK hP (metX1_isUp l D a d n fW fC fP fX F fY ol pl cu r p hn hN hr c_6) rfl rfl (cwV 2 hts (lw_V q117 q119 qs6 q19 q120) rfl rfl rfl (by decide +kernel) ⟨Nat.le_of_ble_eq_true rfl, Nat.le_of_ble_eq_true rfl⟩) rfl rfl (Nat.le_of_ble_eq_true rfl) hl.1 ⟨Nat.zero_le _, Nat.zero_le _⟩ dX1_better_12 (fun r_12 h_12 => ?_)
        have h_12 : r_12 = ww_b2 (ww_up fW fX r p) := h_12
        subst h_12
        refine ww_if_neB (tgt := 21) hx hb dX1_better_15 (by decide) (fun c_15 => ?_) (fun c_15 => ?_)
        · obtain ⟨w, hw, ew⟩ := ww_net_w hN hn hr c_6 c_15.1
          refine lv_aload_n hx hb dX1_better_21 rfl (lv_at hl 0 rfl) ?_
          refine ww_gX 1 q37 rfl hx hb hts hown hK hP dX1_better_22 ?_
          refine lv_iload_n hx hb dX1_better_25 rfl (lv_at hl 1 rfl) ?_
          refine lv_iconst (v := nI 4) hx hb dX1_better_26 (by decide) ?_
          refine ww_imulc hx hb dX1_better_27 ?_
          refine lv_iload_n hx hb dX1_better_28 rfl (lv_at hl 3 rfl) ?_
          refine ww_iadd hx hb dX1_better_29 ?_
          refine ww_iald hx hb hK hP 1 0 rfl rfl dX1_better_30 ?_
          refine ww_top (ew) ?_
          refine lv_istore (lv' := [(4, .int (nI w)), (0, .ref (a 0)), (1, .int (nI r)), (2, .int did), (3, .int (nI p))]) hx hb dX1_better_31 hl (by decide) rfl (fun ls hl => ?_)
          refine lv_iconst (v := nI 0) hx hb dX1_better_33 (by decide) ?_
          refine lv_istore (lv' := [(5, .int (nI 0)), (4, .int (nI w)), (0, .ref (a 0)), (1, .int (nI r)), (2, .int did), (3, .int (nI p))]) hx hb dX1_better_34 hl (by decide) rfl (fun ls hl => ?_)
          exact loopB p w c_6 c_15 hw ew k152 (n + 1) 0 (by omega) (by omega) did F (hB.mono (fun p2 q2 t2 _ _ _ z _ => by omega)) _ _ hP hD hS ls (lv_sub hl [2, 3, 4, 5, 1, 0] rfl)
        · refine lv_goto (tgt := 152) hx hb dX1_better_18 (by decide) ?_
          exact k152 did F (hB.mono (fun p2 q2 t2 _ _ _ z z2 => by
            rcases (show p2 < p ∨ p2 = p by omega) with y | rfl
            · exact Or.inl y
            · exact absurd z2.1 c_15)) _ _ hP hD hS ls (lv_sub hl [0, 1, 2, 3] rfl)
  refine lv_iconst (v := nI 0) hx hb dX1_better_0 (by decide) ?_
  refine lv_istore_n (lv' := [(2, .int (nI 0)), (0, .ref (a 0)), (1, .int (nI r))]) hx hb dX1_better_1 rfl hl (by decide) rfl (fun ls hl => ?_)
  refine lv_iconst (v := nI 0) hx hb dX1_better_2 (by decide) ?_
  refine lv_istore_n (lv' := [(3, .int (nI 0)), (2, .int (nI 0)), (0, .ref (a 0)), (1, .int (nI r))]) hx hb dX1_better_3 rfl hl (by decide) rfl (fun ls hl => ?_)
  exact loopC 5 0 (by omega) (by omega) (nI 0) fF ⟨hF0, Or.inl ⟨rfl, rfl, fun p2 q2 t2 _ _ _ z _ => by omega⟩⟩ _ _ hP hD hS ls (lv_sub hl [2, 3, 1, 0] rfl)
set_option maxHeartbeats 4000000 in
set_option maxRecDepth 100000 in
theorem metX1_best (l : Launch) (D : va_G) (a : Nat → Nat) (d : Nat → ClassId) (n : Nat) (fW fC fP fX fF fY : Nat → Int32) (ol pl cu : Int32) (G : Nat → Nat) (r t : Nat) (hn : n ≤ 10) (hN : ww_net fW fC fX) (hpin : ww_pin fW fP) (hr : r < n) (ht : t < 26) (hG : ∀ q, q < n → fF (26 * q + t) = nI (G q) ∧ G q ≤ 9999) : Met l yX1_best (ws_ yX1_best cX1_best 9 (some .int)) ({ frames := 1, cells := 0, slots := 0, locals := 23 }) (va_Pc [.ref (a 0), .int (nI r), .int (nI t)] (ww_B D (ww_tX d) (ww_X a d n fW fC fP fX fF fY ol pl cu))) (vp_Si (fun v : Int32 => v = ww_enc n (ww_pk (ww_val n fW fC fX G r) (4 * n)))) 0 0 (fun _ => False) := by
  refine Met.ofW (cc := cX1_best) (maxL := 9) (ret := (some .int)) (by decide) rfl ?_
  intro pr e s m args below meth c s₁ B hml hv
  obtain ⟨rfl, hP, hK⟩ := hv
  have hx := B.exec
  have hb := B.bytes
  have hret := B.returns
  have hts := atoms_spec (ws := (ws_ yX1_best cX1_best 9 (some .int))) B.pre
  have hts : ∀ w ∈ lw_all, w.before _ s = true := fun w h => hts w (List.mem_cons_of_mem _ h)
  have hown : s.vm.findClass RX1 = some m.cls := findClass_of_methodNamed B.named
  have hlocks := B.notSynchronized
  have hP : va_P D ww_cl (ww_X a d n fW fC fP fX fF fY ol pl cu) s.heap := hP
  have hl := lv_entry ([.ref (a 0), .int (nI r), .int (nI t)]) (n := 9) (Nat.le_of_ble_eq_true rfl)
  rw [lg_entry_eq]
  generalize (lg_sl ([.ref (a 0), .int (nI r), .int (nI t)]) ++ List.replicate (9 - (lg_sl ([.ref (a 0), .int (nI r), .int (nI t)])).length) Slot.unset).toArray = ls at hl ⊢
  have hl : lv_has ls 9 [(0, .ref (a 0)), (1, .int (nI r)), (2, .int (nI t))] := hl
  have loopB : ∀ (p w : Nat), p < 4 → ww_up fW fX r p → w < 16 → fW (4 * r + p) = nI w → (∀ (lo : Nat) (fd : Int32), lo = ww_pv 9999 (ww_val n fW fC fX G r) (n * (p + 1)) → fd = ww_enc n (ww_pk (ww_val n fW fC fX G r) (n * (p + 1))) → ∀ (ls : Array Slot), lv_has ls 9 [(0, .ref (a 0)), (1, .int (nI r)), (2, .int (nI t)), (3, .int (nI lo)), (4, .int fd), (5, .int (nI p))] → W pr l e (headSpec (ws_ yX1_best cX1_best 9 (some .int)) ({ frames := 1, cells := 0, slots := 0, locals := 23 })).room s m ([.ref (a 0), .int (nI r), .int (nI t)] : List Value).toArray below meth c s.heap [] 0 0 (MQ below (vp_Si (fun v : Int32 => v = ww_enc n (ww_pk (ww_val n fW fC fX G r) (4 * n)))) ([.ref (a 0), .int (nI r), .int (nI t)] : List Value).toArray s 0 0 (fun _ => False)) (F0 m 128 ls [])) → ∀ (k q : Nat), q ≤ n → n + 1 ≤ q + k → ∀ (lo : Nat) (fd : Int32), lo = ww_pv 9999 (ww_val n fW fC fX G r) (n * p + q) → fd = ww_enc n (ww_pk (ww_val n fW fC fX G r) (n * p + q)) → ∀ (ls : Array Slot), lv_has ls 9 [(0, .ref (a 0)), (1, .int (nI r)), (2, .int (nI t)), (3, .int (nI lo)), (4, .int fd), (5, .int (nI p)), (6, .int (nI w)), (7, .int (nI q))] → W pr l e (headSpec (ws_ yX1_best cX1_best 9 (some .int)) ({ frames := 1, cells := 0, slots := 0, locals := 23 })).room s m ([.ref (a 0), .int (nI r), .int (nI t)] : List Value).toArray below meth c s.heap [] 0 0 (MQ below (vp_Si (fun v : Int32 => v = ww_enc n (ww_pk (ww_val n fW fC fX G r) (4 * n)))) ([.ref (a 0), .int (nI r), .int (nI t)] : List Value).toArray s 0 0 (fun _ => False)) (F0 m 45 ls []) := by
    intro p w hp hup hw ew kont k
    induction k with
    | zero => intro q h1 h2; exact absurd h2 (by omega)
    | succ k ih =>
      intro q h1 h2 lo fd elo efd ls hl
      refine lv_iload hx hb dX1_best_45 (lv_at hl 7 rfl) ?_
      refine lv_aload_n hx hb dX1_best_47 rfl (lv_at hl 0 rfl) ?_
      refine ww_gX 0 q36 rfl hx hb hts hown hK hP dX1_best_48 ?_
      refine ww_icmp_ge (tgt := 128) hx hb dX1_best_51 (by decide) (fun c_51 => ?_) (fun c_51 => ?_)
      · have eq : q = n := by omega
        subst eq
        have e2 : q * p + q = q * (p + 1) := by rw [Nat.mul_add, Nat.mul_one]
        rw [e2] at elo efd
        exact kont lo fd elo efd ls (lv_sub hl [0, 1, 2, 3, 4, 5] rfl)
      · have hcs := ww_net_c hN hn hr hp hup.1
        have hg1 := (hG q c_51).2
        have hlo : lo ≤ 9999 := by rw [elo]; exact ww_pv_le
        have hva := ww_val_at (n := n) (W := fW) (C := fC) (X := fX) (G := G) (r := r) (p := p) c_51
        refine lv_aload_n hx hb dX1_best_54 rfl (lv_at hl 0 rfl) ?_
        refine ww_gX 2 q38 rfl hx hb hts hown hK hP dX1_best_55 ?_
        refine lv_iload_n hx hb dX1_best_58 rfl (lv_at hl 1 rfl) ?_
        refine lv_iconst (v := nI 4) hx hb dX1_best_59 (by decide) ?_
        refine ww_imulc hx hb dX1_best_60 ?_
        refine lv_iload hx hb dX1_best_61 (lv_at hl 5 rfl) ?_
        refine ww_iadd hx hb dX1_best_63 ?_
        refine ww_iald hx hb hK hP 2 1 rfl rfl dX1_best_64 ?_
        refine ww_top (hcs.2.2) ?_
        refine lv_aload_n hx hb dX1_best_65 rfl (lv_at hl 0 rfl) ?_
        refine ww_gX 5 q41 rfl hx hb hts hown hK hP dX1_best_66 ?_
        refine lv_iload hx hb dX1_best_69 (lv_at hl 7 rfl) ?_
        refine lv_bipush (v := nI 26) hx hb dX1_best_71 (by decide) ?_
        refine ww_imulc hx hb dX1_best_73 ?_
        refine lv_iload_n hx hb dX1_best_74 rfl (lv_at hl 2 rfl) ?_
        refine ww_iadd hx hb dX1_best_75 ?_
        refine ww_iald hx hb hK hP 5 4 rfl rfl dX1_best_76 ?_
        refine ww_top ((hG q c_51).1) ?_
        refine ww_iadd hx hb dX1_best_77 ?_
        refine lv_istore (lv' := [(8, .int (nI ((ww_cs fC r p) + (G q)))), (0, .ref (a 0)), (1, .int (nI r)), (2, .int (nI t)), (3, .int (nI lo)), (4, .int fd), (5, .int (nI p)), (6, .int (nI w)), (7, .int (nI q))]) hx hb dX1_best_78 hl (by decide) rfl (fun ls hl => ?_)
        refine lv_iload hx hb dX1_best_80 (lv_at hl 8 rfl) ?_
        refine lv_iload_n hx hb dX1_best_82 rfl (lv_at hl 2 rfl) ?_
        refine ww_icmp_eq (tgt := 122) hx hb dX1_best_83 (by decide) (fun c_83 => ?_) (fun c_83 => ?_)
        · refine lv_iinc (v := nI (q + 1)) (lv' := [(7, .int (nI (q + 1))), (8, .int (nI ((ww_cs fC r p) + (G q)))), (0, .ref (a 0)), (1, .int (nI r)), (2, .int (nI t)), (3, .int (nI lo)), (4, .int fd), (5, .int (nI p)), (6, .int (nI w))]) hx hb dX1_best_122 hl (k := 8) rfl (ww_inc q) (by decide) rfl (fun ls hl => ?_)
          refine lv_goto (tgt := 45) hx hb dX1_best_125 (by decide) ?_
          rw [if_neg (fun z => z.2.1 c_83)] at hva
          have hge : lo ≤ ww_val n fW fC fX G r (n * p + q) := by rw [hva]; exact hlo
          have kp := ww_pk_keep (I := 9999) (v := (ww_val n fW fC fX G r)) (K := n * p + q) Iff.rfl (by rw [← elo]; exact hge)
          exact ih (q + 1) (by omega) (by omega) lo fd (by rw [show n * p + (q + 1) = n * p + q + 1 from rfl, ww_pv_same kp]; exact elo) (by rw [show n * p + (q + 1) = n * p + q + 1 from rfl, kp]; exact efd) ls (lv_sub hl [2, 3, 4, 5, 6, 7, 8, 0] rfl)
        · refine lv_aload_n hx hb dX1_best_86 rfl (lv_at hl 1 rfl) ?_
          refine ww_gX 3 q39 rfl hx hb hts hown hK hP dX1_best_87 ?_
          refine lv_iload hx hb dX1_best_90 (lv_at hl 8 rfl) ?_
          refine lv_bipush (v := nI 16) hx hb dX1_best_92 (by decide) ?_
          refine ww_imulc hx hb dX1_best_94 ?_
          refine lv_iload hx hb dX1_best_95 (lv_at hl 7 rfl) ?_
          refine ww_iadd hx hb dX1_best_97 ?_
          refine ww_iald hx hb hK hP 3 2 rfl rfl dX1_best_98 ?_
          refine ww_top (hpin q w (by omega) hw) ?_
          refine lv_iconst (v := -1) hx hb dX1_best_99 (by decide) ?_
          refine lv_icmp_eq (tgt := 122) hx hb dX1_best_100 (by decide) (fun c_100 => ?_) (fun c_100 => ?_)
          · refine lv_iinc (v := nI (q + 1)) (lv' := [(7, .int (nI (q + 1))), (8, .int (nI ((ww_cs fC r p) + (G q)))), (0, .ref (a 0)), (1, .int (nI r)), (2, .int (nI t)), (3, .int (nI lo)), (4, .int fd), (5, .int (nI p)), (6, .int (nI w))]) hx hb dX1_best_122 hl (k := 8) rfl (ww_inc q) (by decide) rfl (fun ls hl => ?_)
            refine lv_goto (tgt := 45) hx hb dX1_best_125 (by decide) ?_
            rw [if_neg (fun z => z.2.2 (by rw [ew]; exact c_100))] at hva
            have hge : lo ≤ ww_val n fW fC fX G r (n * p + q) := by rw [hva]; exact hlo
            have kp := ww_pk_keep (I := 9999) (v := (ww_val n fW fC fX G r)) (K := n * p + q) Iff.rfl (by rw [← elo]; exact hge)
            exact ih (q + 1) (by omega) (by omega) lo fd (by rw [show n * p + (q + 1) = n * p + q + 1 from rfl, ww_pv_same kp]; exact elo) (by rw [show n * p + (q + 1) = n * p + q + 1 from rfl, kp]; exact efd) ls (lv_sub hl [2, 3, 4, 5, 6, 7, 8, 0] rfl)
          · refine lv_iload hx hb dX1_best_103 (lv_at hl 0 rfl) ?_
            refine lv_iload_n hx hb dX1_best_105 rfl (lv_at hl 4 rfl) ?_
            refine ww_icmp_ge (tgt := 122) hx hb dX1_best_106 (by decide) (fun c_106 => ?_) (fun c_106 => ?_)
            · refine lv_iinc (v := nI (q + 1)) (lv' := [(7, .int (nI (q + 1))), (8, .int (nI ((ww_cs fC r p) + (G q)))), (0, .ref (a 0)), (1, .int (nI r)), (2, .int (nI t)), (3, .int (nI lo)), (4, .int fd), (5, .int (nI p)), (6, .int (nI w))]) hx hb dX1_best_122 hl (k := 8) rfl (ww_inc q) (by decide) rfl (fun ls hl => ?_)
              refine lv_goto (tgt := 45) hx hb dX1_best_125 (by decide) ?_
              rw [if_pos ⟨hup, c_83, by rw [ew]; exact c_100⟩] at hva
              have hge : lo ≤ ww_val n fW fC fX G r (n * p + q) := by rw [hva]; exact c_106
              have kp := ww_pk_keep (I := 9999) (v := (ww_val n fW fC fX G r)) (K := n * p + q) Iff.rfl (by rw [← elo]; exact hge)
              exact ih (q + 1) (by omega) (by omega) lo fd (by rw [show n * p + (q + 1) = n * p + q + 1 from rfl, ww_pv_same kp]; exact elo) (by rw [show n * p + (q + 1) = n * p + q + 1 from rfl, kp]; exact efd) ls (lv_sub hl [2, 3, 4, 5, 6, 7, 8, 0] rfl)
            · refine lv_iload hx hb dX1_best_109 (lv_at hl 0 rfl) ?_
              refine lv_istore_n (lv' := [(3, .int (nI ((ww_cs fC r p) + (G q)))), (8, .int (nI ((ww_cs fC r p) + (G q)))), (0, .ref (a 0)), (1, .int (nI r)), (2, .int (nI t)), (4, .int fd), (5, .int (nI p)), (6, .int (nI w)), (7, .int (nI q))]) hx hb dX1_best_111 rfl hl (by decide) rfl (fun ls hl => ?_)
              refine lv_bipush (v := nI 16) hx hb dX1_best_112 (by decide) ?_
              refine lv_iload hx hb dX1_best_114 (lv_at hl 6 rfl) ?_
              refine ww_imul hx hb dX1_best_116 ?_
              refine lv_iload hx hb dX1_best_117 (lv_at hl 8 rfl) ?_
              refine ww_iadd hx hb dX1_best_119 ?_
              refine lv_istore (lv' := [(4, .int (nI ((16 * p) + q))), (3, .int (nI ((ww_cs fC r p) + (G q)))), (8, .int (nI ((ww_cs fC r p) + (G q)))), (0, .ref (a 0)), (1, .int (nI r)), (2, .int (nI t)), (5, .int (nI p)), (6, .int (nI w)), (7, .int (nI q))]) hx hb dX1_best_120 hl (by decide) rfl (fun ls hl => ?_)
              refine lv_iinc (v := nI (q + 1)) (lv' := [(7, .int (nI (q + 1))), (4, .int (nI ((16 * p) + q))), (3, .int (nI ((ww_cs fC r p) + (G q)))), (8, .int (nI ((ww_cs fC r p) + (G q)))), (0, .ref (a 0)), (1, .int (nI r)), (2, .int (nI t)), (5, .int (nI p)), (6, .int (nI w))]) hx hb dX1_best_122 hl (k := 8) rfl (ww_inc q) (by decide) rfl (fun ls hl => ?_)
              refine lv_goto (tgt := 45) hx hb dX1_best_125 (by decide) ?_
              rw [if_pos ⟨hup, c_83, by rw [ew]; exact c_100⟩] at hva
              have tk := ww_pk_take (I := 9999) (v := (ww_val n fW fC fX G r)) (K := n * p + q) Iff.rfl (by rw [hva, ← elo]; exact c_106)
              exact ih (q + 1) (by omega) (by omega) _ _ (by rw [show n * p + (q + 1) = n * p + q + 1 from rfl, ww_pv_take tk, hva]) (by rw [show n * p + (q + 1) = n * p + q + 1 from rfl, tk, ww_enc_at c_51]) ls (lv_sub hl [4, 5, 6, 2, 1, 7, 8, 0] rfl)
  have loopC : ∀ (k p : Nat), p ≤ 4 → 5 ≤ p + k → ∀ (lo : Nat) (fd : Int32), lo = ww_pv 9999 (ww_val n fW fC fX G r) (n * p) → fd = ww_enc n (ww_pk (ww_val n fW fC fX G r) (n * p)) → ∀ (ls : Array Slot), lv_has ls 9 [(0, .ref (a 0)), (1, .int (nI r)), (2, .int (nI t)), (3, .int (nI lo)), (4, .int fd), (5, .int (nI p))] → W pr l e (headSpec (ws_ yX1_best cX1_best 9 (some .int)) ({ frames := 1, cells := 0, slots := 0, locals := 23 })).room s m ([.ref (a 0), .int (nI r), .int (nI t)] : List Value).toArray below meth c s.heap [] 0 0 (MQ below (vp_Si (fun v : Int32 => v = ww_enc n (ww_pk (ww_val n fW fC fX G r) (4 * n)))) ([.ref (a 0), .int (nI r), .int (nI t)] : List Value).toArray s 0 0 (fun _ => False)) (F0 m 10 ls []) := by
    intro k
    induction k with
    | zero => intro p h1 h2; exact absurd h2 (by omega)
    | succ k ih =>
      intro p h1 h2 lo fd elo efd ls hl
      refine lv_iload hx hb dX1_best_10 (lv_at hl 5 rfl) ?_
      refine lv_iconst (v := nI 4) hx hb dX1_best_12 (by decide) ?_
      refine ww_icmp_ge (tgt := 134) hx hb dX1_best_13 (by decide) (fun c_13 => ?_) (fun c_13 => ?_)
      · refine lv_iload hx hb dX1_best_134 (lv_at hl 4 rfl) ?_
        exact W.iret hx hb hret (fun t9 ht9 hW9 => ⟨_, rfl, (by have e4 : p = 4 := (by omega); subst e4; show fd = _; rw [Nat.mul_comm 4 n]; exact efd), ht9⟩) (fun q h => by cases h) dX1_best_136
      · have k128 : ∀ (lo : Nat) (fd : Int32), lo = ww_pv 9999 (ww_val n fW fC fX G r) (n * (p + 1)) → fd = ww_enc n (ww_pk (ww_val n fW fC fX G r) (n * (p + 1))) → ∀ (ls : Array Slot), lv_has ls 9 [(0, .ref (a 0)), (1, .int (nI r)), (2, .int (nI t)), (3, .int (nI lo)), (4, .int fd), (5, .int (nI p))] → W pr l e (headSpec (ws_ yX1_best cX1_best 9 (some .int)) ({ frames := 1, cells := 0, slots := 0, locals := 23 })).room s m ([.ref (a 0), .int (nI r), .int (nI t)] : List Value).toArray below meth c s.heap [] 0 0 (MQ below (vp_Si (fun v : Int32 => v = ww_enc n (ww_pk (ww_val n fW fC fX G r) (4 * n)))) ([.ref (a 0), .int (nI r), .int (nI t)] : List Value).toArray s 0 0 (fun _ => False)) (F0 m 128 ls []) := by
          intro lo fd elo efd ls hl
          refine lv_iinc (v := nI (p + 1)) (lv' := [(5, .int (nI (p + 1))), (0, .ref (a 0)), (1, .int (nI r)), (2, .int (nI t)), (3, .int (nI lo)), (4, .int fd)]) hx hb dX1_best_128 hl (k := 5) rfl (ww_inc p) (by decide) rfl (fun ls hl => ?_)
          refine lv_goto (tgt := 10) hx hb dX1_best_131 (by decide) ?_
          exact ih (p + 1) (by omega) (by omega) lo fd elo efd ls (lv_sub hl [1, 2, 3, 4, 5, 0] rfl)
        refine lv_aload_n hx hb dX1_best_16 rfl (lv_at hl 0 rfl) ?_
        refine lv_iload_n hx hb dX1_best_17 rfl (lv_at hl 1 rfl) ?_
        refine lv_iload hx hb dX1_best_18 (lv_at hl 5 rfl) ?_
        refine ww_ro (As := [.int (nI r), .int (nI p)]) (rest := []) ⟨hx, hb, hml, hown, hts⟩ hK hP (metX1_isUp l D a d n fW fC fP fX fF fY ol pl cu r p hn hN hr c_13) rfl rfl (cwV 2 hts (lw_V q117 q119 qs6 q19 q120) rfl rfl rfl (by decide +kernel) ⟨Nat.le_of_ble_eq_true rfl, Nat.le_of_ble_eq_true rfl⟩) rfl rfl (Nat.le_of_ble_eq_true rfl) hl.1 ⟨Nat.zero_le _, Nat.zero_le _⟩ dX1_best_20 (fun r_20 h_20 => ?_)
        have h_20 : r_20 = ww_b2 (ww_up fW fX r p) := h_20
        subst h_20
        refine ww_if_neB (tgt := 29) hx hb dX1_best_23 (by decide) (fun c_23 => ?_) (fun c_23 => ?_)
        · obtain ⟨w, hw, ew⟩ := ww_net_w hN hn hr c_13 c_23.1
          refine lv_aload_n hx hb dX1_best_29 rfl (lv_at hl 0 rfl) ?_
          refine ww_gX 1 q37 rfl hx hb hts hown hK hP dX1_best_30 ?_
          refine lv_iload_n hx hb dX1_best_33 rfl (lv_at hl 1 rfl) ?_
          refine lv_iconst (v := nI 4) hx hb dX1_best_34 (by decide) ?_
          refine ww_imulc hx hb dX1_best_35 ?_
          refine lv_iload hx hb dX1_best_36 (lv_at hl 5 rfl) ?_
          refine ww_iadd hx hb dX1_best_38 ?_
          refine ww_iald hx hb hK hP 1 0 rfl rfl dX1_best_39 ?_
          refine ww_top (ew) ?_
          refine lv_istore (lv' := [(6, .int (nI w)), (0, .ref (a 0)), (1, .int (nI r)), (2, .int (nI t)), (3, .int (nI lo)), (4, .int fd), (5, .int (nI p))]) hx hb dX1_best_40 hl (by decide) rfl (fun ls hl => ?_)
          refine lv_iconst (v := nI 0) hx hb dX1_best_42 (by decide) ?_
          refine lv_istore (lv' := [(7, .int (nI 0)), (6, .int (nI w)), (0, .ref (a 0)), (1, .int (nI r)), (2, .int (nI t)), (3, .int (nI lo)), (4, .int fd), (5, .int (nI p))]) hx hb dX1_best_43 hl (by decide) rfl (fun ls hl => ?_)
          exact loopB p w c_13 c_23 hw ew k128 (n + 1) 0 (by omega) (by omega) lo fd elo efd ls (lv_sub hl [2, 3, 4, 5, 6, 7, 1, 0] rfl)
        · refine lv_goto (tgt := 128) hx hb dX1_best_26 (by decide) ?_
          have kp := ww_pk_down (n := n) (C := fC) (G := G) c_23
          exact k128 lo fd (by rw [ww_pv_same kp]; exact elo) (by rw [kp]; exact efd) ls (lv_sub hl [0, 1, 2, 3, 4, 5] rfl)
  refine lv_sipush (v := nI 9999) hx hb dX1_best_0 (by decide) ?_
  refine lv_istore_n (lv' := [(3, .int (nI 9999)), (0, .ref (a 0)), (1, .int (nI r)), (2, .int (nI t))]) hx hb dX1_best_3 rfl hl (by decide) rfl (fun ls hl => ?_)
  refine lv_iconst (v := -1) hx hb dX1_best_4 (by decide) ?_
  refine lv_istore (lv' := [(4, .int (-1)), (3, .int (nI 9999)), (0, .ref (a 0)), (1, .int (nI r)), (2, .int (nI t))]) hx hb dX1_best_5 hl (by decide) rfl (fun ls hl => ?_)
  refine lv_iconst (v := nI 0) hx hb dX1_best_7 (by decide) ?_
  refine lv_istore (lv' := [(5, .int (nI 0)), (4, .int (-1)), (3, .int (nI 9999)), (0, .ref (a 0)), (1, .int (nI r)), (2, .int (nI t))]) hx hb dX1_best_8 hl (by decide) rfl (fun ls hl => ?_)
  exact loopC 5 0 (by omega) (by omega) 9999 (-1) rfl rfl ls (lv_sub hl [3, 4, 5, 2, 1, 0] rfl)
end
section
/-! plain facts for reckon of the class -/
def ww_i0 (W X : Nat → Int32) (a r : Nat) : Nat := if ww_at W X a r then 0 else 9999
def ww_ini (n : Nat) (W X F : Nat → Int32) (r t : Nat) : Prop := ∀ x a, x < n → a < 26 → (x < r ∨ (x = r ∧ a < t)) → F (26 * x + a) = nI (ww_i0 W X a x)
theorem ww_ini_step {n : Nat} {W X F : Nat → Int32} {r t : Nat} {v : Int32} (h : ww_ini n W X F r t) (ht : t < 26) (hv : v = nI (ww_i0 W X t r)) : ww_ini n W X (upd F (26 * r + t) v) r (t + 1) := by
  intro x a hx ha hd
  by_cases e : x = r ∧ a = t
  · obtain ⟨rfl, rfl⟩ := e
    rw [pk_us, hv]
  · rw [pk_un (by omega)]
    exact h x a hx ha (by omega)
theorem ww_ini_row {n : Nat} {W X F : Nat → Int32} {r t : Nat} (h : ww_ini n W X F r t) (ht : 26 ≤ t) : ww_ini n W X F (r + 1) 0 := fun x a hx ha hd => h x a hx ha (by omega)
theorem ww_dir_lo {W X : Nat → Int32} {r t : Nat} (ht : t < 10) : ww_dir W X r t = -1 := by
  unfold ww_dir
  rw [if_neg (by omega)]
theorem ww_at_iff {W X : Nat → Int32} {r t : Nat} (hr : r < 10) : ww_at W X t r ↔ t = r ∨ ww_dir W X r t ≠ -1 := by
  by_cases ht : t < 10
  · constructor
    · intro h
      rcases h with h | h
      · exact Or.inl h.2.symm
      · omega
    · intro h
      rcases h with h | h
      · exact Or.inl ⟨ht, h.symm⟩
      · exact absurd (ww_dir_lo ht) h
  · constructor
    · intro h
      rcases h with h | h
      · omega
      · refine Or.inr ?_
        unfold ww_dir
        rw [if_pos ⟨h.1, h.2.1⟩]
        exact h.2.2
    · intro h
      rcases h with h | h
      · omega
      · unfold ww_dir at h
        by_cases c : 10 ≤ t ∧ X (t - 10) = 0
        · rw [if_pos c] at h
          exact Or.inr ⟨c.1, c.2, h⟩
        · rw [if_neg c] at h
          exact absurd rfl h
theorem ww_i0_t {W X : Nat → Int32} {r t : Nat} (hr : r < 10) (h : t = r ∨ ww_dir W X r t ≠ -1) : nI 0 = nI (ww_i0 W X t r) := by
  unfold ww_i0
  rw [if_pos ((ww_at_iff hr).mpr h)]
theorem ww_i0_f {W X : Nat → Int32} {r t : Nat} (hr : r < 10) (h1 : ¬ t = r) (h2 : ww_dir W X r t = -1) : nI 9999 = nI (ww_i0 W X t r) := by
  unfold ww_i0
  rw [if_neg (fun z => by rcases (ww_at_iff hr).mp z with q | q; exact h1 q; exact q h2)]
theorem ww_i0_le (W X : Nat → Int32) (a r : Nat) : ww_i0 W X a r ≤ 9999 := by
  unfold ww_i0
  split <;> omega
theorem ww_ini_fin {n : Nat} {W C X F : Nat → Int32} {r : Nat} (h : ww_ini n W X F r 0) (hr : n ≤ r) : ww_fin n W C X F := by
  have e : ∀ x a, x < n → a < 26 → ww_g F a x = ww_i0 W X a x := fun x a hx ha => by
    unfold ww_g
    rw [h x a hx ha (by omega), nI_clamp (by have := ww_i0_le W X a x; omega)]
  refine ⟨fun x a hx ha => by rw [e x a hx ha]; exact h x a hx ha (by omega), fun a ha => ⟨fun x hx => by rw [e x a hx ha]; exact ww_i0_le W X a x, fun x hx hat => ?_, fun x hx hlt => ?_⟩⟩
  · rw [e x a hx ha]
    unfold ww_i0
    rw [if_pos hat]
  · rw [e x a hx ha] at hlt
    unfold ww_i0 at hlt
    by_cases c : ww_at W X a x
    · exact Or.inl c
    · rw [if_neg c] at hlt
      omega
/-- a pass over all routers on its way -/
def ww_ps (n : Nat) (W C X F0 : Nat → Int32) (more : Int32) (F : Nat → Int32) (r : Nat) : Prop := ww_fin n W C X F ∧ ((more = nI 0 ∧ F = F0 ∧ ∀ x, x < r → ww_row n W C X F0 x) ∨ (more = nI 1 ∧ ww_sm F 260 < ww_sm F0 260))
theorem ww_ps_step {n : Nat} {W C X F0 F u : Nat → Int32} {more v : Int32} {r : Nat} (h : ww_ps n W C X F0 more F r) (hb : ww_fin n W C X u ∧ ((v = nI 0 ∧ u = F ∧ ww_row n W C X F r) ∨ (v = nI 1 ∧ ww_sm u 260 < ww_sm F 260))) : ww_ps n W C X F0 (more ||| v) u (r + 1) := by
  refine ⟨hb.1, ?_⟩
  rcases h.2 with ⟨h1, h2, h3⟩ | ⟨h1, h2⟩
  · rcases hb.2 with ⟨g1, g2, g3⟩ | ⟨g1, g2⟩
    · refine Or.inl ⟨by rw [h1, g1]; decide, by rw [g2, h2], fun x hx => ?_⟩
      by_cases e : x = r
      · subst e; rw [← h2]; exact g3
      · exact h3 x (by omega)
    · exact Or.inr ⟨by rw [h1, g1]; decide, by rw [← h2]; exact g2⟩
  · rcases hb.2 with ⟨g1, g2, g3⟩ | ⟨g1, g2⟩
    · exact Or.inr ⟨by rw [h1, g1]; decide, by rw [g2]; exact h2⟩
    · exact Or.inr ⟨by rw [h1, g1]; decide, by omega⟩
theorem ww_fin_sol {n : Nat} {W C X F : Nat → Int32} (h : ww_fin n W C X F) (hs : ∀ x, x < n → ww_row n W C X F x) : ∀ a, a < 26 → ww_sol 9999 n W C X a (ww_g F a) := fun a ha => ⟨h.2 a ha, fun r p q hr hp hq hl => hs r hr p q a hp hq ha hl⟩
theorem ww_val_cong {n : Nat} {W C X : Nat → Int32} {F G : Nat → Nat} {r : Nat} (h0 : 0 < n) (h : ∀ q, q < n → F q = G q) : ∀ k, ww_val n W C X F r k = ww_val n W C X G r k := by
  intro k
  unfold ww_val
  rw [h _ (Nat.mod_lt _ h0)]
theorem ww_best_eq {n : Nat} {W C X F : Nat → Int32} {r t : Nat} (h0 : 0 < n) (hn : n ≤ 10) (hN : ww_net W C X) (hs : ww_sol 9999 n W C X t (ww_g F t)) : ww_pk (ww_val n W C X (ww_g F t) r) (4 * n) = ww_best n W C X r t := ww_pk_cong (fun k _ => ww_val_cong h0 (fun q hq => ww_D_eq hN hn hs hq) k)
def ww_yin (n : Nat) (W C X Y : Nat → Int32) (r t : Nat) : Prop := ∀ x a, x < n → a < 26 → (x < r ∨ (x = r ∧ a < t)) → Y (26 * x + a) = ww_y n W C X x a
theorem ww_yin_step {n : Nat} {W C X Y : Nat → Int32} {r t : Nat} {v : Int32} (h : ww_yin n W C X Y r t) (ht : t < 26) (hv : v = ww_y n W C X r t) : ww_yin n W C X (upd Y (26 * r + t) v) r (t + 1) := by
  intro x a hx ha hd
  by_cases e : x = r ∧ a = t
  · obtain ⟨rfl, rfl⟩ := e
    rw [pk_us, hv]
  · rw [pk_un (by omega)]
    exact h x a hx ha (by omega)
theorem ww_yin_row {n : Nat} {W C X Y : Nat → Int32} {r t : Nat} (h : ww_yin n W C X Y r t) (ht : 26 ≤ t) : ww_yin n W C X Y (r + 1) 0 := fun x a hx ha hd => h x a hx ha (by omega)
theorem ww_tab_of {n : Nat} {W C X F Y : Nat → Int32} {r : Nat} (hn : n ≤ 10) (hN : ww_net W C X) (hF : ww_fin n W C X F) (hs : ∀ a, a < 26 → ww_sol 9999 n W C X a (ww_g F a)) (hy : ww_yin n W C X Y r 0) (hr : n ≤ r) : ww_tab n W C X F Y := ⟨fun a ha => ww_D_sol (hs a ha), fun x a hx ha => by rw [hF.1 x a hx ha, ww_D_eq hN hn (hs a ha) hx], fun x a hx ha => hy x a hx ha (by omega)⟩
theorem ww_y_self {n : Nat} {W C X : Nat → Int32} {r t : Nat} (h : t = r) : -1 = ww_y n W C X r t := by
  unfold ww_y
  rw [if_pos h]
theorem ww_y_dir {n : Nat} {W C X : Nat → Int32} {r t : Nat} (h : ¬ t = r) (h2 : ¬ ww_dir W X r t = -1) : nI 16 * ww_dir W X r t + nI 15 = ww_y n W C X r t := by
  unfold ww_y
  rw [if_neg h, if_pos h2]
theorem ww_y_best {n : Nat} {W C X : Nat → Int32} {r t : Nat} (h : ¬ t = r) (h2 : ww_dir W X r t = -1) : ww_enc n (ww_best n W C X r t) = ww_y n W C X r t := by
  unfold ww_y
  rw [if_neg h, if_neg (fun z => z h2)]
end
section
/-! reckon of the class -/
set_option maxHeartbeats 4000000 in
set_option maxRecDepth 100000 in
theorem metX1_reckon (l : Launch) (D : va_G) (a : Nat → Nat) (d : Nat → ClassId) (n : Nat) (fW fC fP fX fF fY : Nat → Int32) (ol pl cu : Int32) (sz : Nat)  (hI : ww_inv n fW fC fP fX fF fY ol) : Met l yX1_reckon (ws_ yX1_reckon cX1_reckon 5 none) ({ frames := 2, cells := 0, slots := 0, locals := 51 }) (va_Pc [.ref (a 0)] (ww_C D (ww_tX d) (ww_X a d n fW fC fP fX fF fY ol pl cu) sz)) (va_Qv (fun (u : (Nat → Int32) × (Nat → Int32) × Int32) => u.2.2 = nI 0 ∧ ww_tab n fW fC fX u.1 u.2.1) (fun (u : (Nat → Int32) × (Nat → Int32) × Int32) t => va_P D ww_cl (ww_X a d n fW fC fP fX u.1 u.2.1 u.2.2 pl cu) t.heap) (va_A (ww_X a d n fW fC fP fX fF fY ol pl cu) sz)) 0 0 (va_A (ww_X a d n fW fC fP fX fF fY ol pl cu) sz) := by
  refine Met.ofW (cc := cX1_reckon) (maxL := 5) (ret := none) (by decide) rfl ?_
  intro pr e s m args below meth c s₁ B hml hv
  obtain ⟨rfl, hsz, hP, hK, hD0⟩ := hv
  have hx := B.exec
  have hb := B.bytes
  have hret := B.returns
  have hts := atoms_spec (ws := (ws_ yX1_reckon cX1_reckon 5 none)) B.pre
  have hts : ∀ w ∈ lw_all, w.before _ s = true := fun w h => hts w (List.mem_cons_of_mem _ h)
  have hown : s.vm.findClass RX1 = some m.cls := findClass_of_methodNamed B.named
  have hlocks := B.notSynchronized
  subst hsz
  have hD := hD0.self (sz := s.heap.size)
  generalize hAe : va_A (ww_X a d n fW fC fP fX fF fY ol pl cu) s.heap.size = A at hD ⊢
  have hA : ∀ q : Nat, s.heap.size ≤ q → A q := fun q h => by rw [← hAe]; exact Or.inr h
  have hS : va_S A s.heap s.heap [] := va_S.rf
  have hP : va_P D ww_cl (ww_X a d n fW fC fP fX fF fY ol pl cu) s.heap := hP
  have hl := lv_entry ([.ref (a 0)]) (n := 5) (Nat.le_of_ble_eq_true rfl)
  rw [lg_entry_eq]
  generalize (lg_sl ([.ref (a 0)]) ++ List.replicate (5 - (lg_sl ([.ref (a 0)])).length) Slot.unset).toArray = ls at hl ⊢
  have hl : lv_has ls 5 [(0, .ref (a 0))] := hl
  obtain ⟨hn0, hn, hN, hpin, hol, htab⟩ := hI
  have ph3 : ∀ (F : Nat → Int32), ww_fin n fW fC fX F → (∀ a, a < 26 → ww_sol 9999 n fW fC fX a (ww_g F a)) → ∀ (Y : Nat → Int32), ∀ (H : Heap) (locs : List Loc), va_P D ww_cl (ww_X a d n fW fC fP fX F Y (nI 0) pl cu) H → va_D A (ww_X a d n fW fC fP fX F Y (nI 0) pl cu) → va_S A s.heap H locs → ∀ (ls : Array Slot), lv_has ls 5 [(0, .ref (a 0))] → W pr l e (headSpec (ws_ yX1_reckon cX1_reckon 5 none) ({ frames := 2, cells := 0, slots := 0, locals := 51 })).room s m ([.ref (a 0)] : List Value).toArray below meth c H locs 0 0 (MQ below (va_Qv (fun (u : (Nat → Int32) × (Nat → Int32) × Int32) => u.2.2 = nI 0 ∧ ww_tab n fW fC fX u.1 u.2.1) (fun (u : (Nat → Int32) × (Nat → Int32) × Int32) t => va_P D ww_cl (ww_X a d n fW fC fP fX u.1 u.2.1 u.2.2 pl cu) t.heap) A) ([.ref (a 0)] : List Value).toArray s 0 0 A) (F0 m 111 ls []) := by
    intro F hF hs
    have loopT : ∀ (r : Nat), r < n → (∀ (Y : Nat → Int32), ww_yin n fW fC fX Y (r + 1) 0 → ∀ (H : Heap) (locs : List Loc), va_P D ww_cl (ww_X a d n fW fC fP fX F Y (nI 0) pl cu) H → va_D A (ww_X a d n fW fC fP fX F Y (nI 0) pl cu) → va_S A s.heap H locs → ∀ (ls : Array Slot), lv_has ls 5 [(0, .ref (a 0)), (2, .int (nI r))] → W pr l e (headSpec (ws_ yX1_reckon cX1_reckon 5 none) ({ frames := 2, cells := 0, slots := 0, locals := 51 })).room s m ([.ref (a 0)] : List Value).toArray below meth c H locs 0 0 (MQ below (va_Qv (fun (u : (Nat → Int32) × (Nat → Int32) × Int32) => u.2.2 = nI 0 ∧ ww_tab n fW fC fX u.1 u.2.1) (fun (u : (Nat → Int32) × (Nat → Int32) × Int32) t => va_P D ww_cl (ww_X a d n fW fC fP fX u.1 u.2.1 u.2.2 pl cu) t.heap) A) ([.ref (a 0)] : List Value).toArray s 0 0 A) (F0 m 186 ls [])) → ∀ (k t : Nat), t ≤ 26 → 27 ≤ t + k → ∀ (Y : Nat → Int32), ww_yin n fW fC fX Y r t → ∀ (H : Heap) (locs : List Loc), va_P D ww_cl (ww_X a d n fW fC fP fX F Y (nI 0) pl cu) H → va_D A (ww_X a d n fW fC fP fX F Y (nI 0) pl cu) → va_S A s.heap H locs → ∀ (ls : Array Slot), lv_has ls 5 [(0, .ref (a 0)), (2, .int (nI r)), (3, .int (nI t))] → W pr l e (headSpec (ws_ yX1_reckon cX1_reckon 5 none) ({ frames := 2, cells := 0, slots := 0, locals := 51 })).room s m ([.ref (a 0)] : List Value).toArray below meth c H locs 0 0 (MQ below (va_Qv (fun (u : (Nat → Int32) × (Nat → Int32) × Int32) => u.2.2 = nI 0 ∧ ww_tab n fW fC fX u.1 u.2.1) (fun (u : (Nat → Int32) × (Nat → Int32) × Int32) t => va_P D ww_cl (ww_X a d n fW fC fP fX u.1 u.2.1 u.2.2 pl cu) t.heap) A) ([.ref (a 0)] : List Value).toArray s 0 0 A) (F0 m 123 ls []) := by
      intro r hr kont k
      induction k with
      | zero => intro t h1 h2; exact absurd h2 (by omega)
      | succ k ih =>
        intro t h1 h2 Y hy H locs hP hD hS ls hl
        refine lv_iload_n hx hb dX1_reckon_123 rfl (lv_at hl 2 rfl) ?_
        refine lv_bipush (v := nI 26) hx hb dX1_reckon_124 (by decide) ?_
        refine ww_icmp_ge (tgt := 186) hx hb dX1_reckon_126 (by decide) (fun c_126 => ?_) (fun c_126 => ?_)
        · exact kont Y (ww_yin_row hy c_126) _ _ hP hD hS ls (lv_sub hl [0, 1] rfl)
        · refine lv_aload_n hx hb dX1_reckon_129 rfl (lv_at hl 0 rfl) ?_
          refine lv_iload_n hx hb dX1_reckon_130 rfl (lv_at hl 1 rfl) ?_
          refine lv_iload_n hx hb dX1_reckon_131 rfl (lv_at hl 2 rfl) ?_
          refine ww_ro (As := [.int (nI r), .int (nI t)]) (rest := []) ⟨hx, hb, hml, hown, hts⟩ hK hP (metX1_direct l D a d n fW fC fP fX F Y (nI 0) pl cu r t hn hpin hr c_126) rfl rfl (cwV 2 hts (lw_V q109 q111 qs4 q19 q112) rfl rfl rfl (by decide +kernel) ⟨Nat.le_of_ble_eq_true rfl, Nat.le_of_ble_eq_true rfl⟩) rfl rfl (Nat.le_of_ble_eq_true rfl) hl.1 ⟨Nat.zero_le _, Nat.zero_le _⟩ dX1_reckon_132 (fun r_132 h_132 => ?_)
          have h_132 : r_132 = ww_dir fW fX r t := h_132
          subst h_132
          refine lv_istore (lv' := [(4, .int (ww_dir fW fX r t)), (0, .ref (a 0)), (2, .int (nI r)), (3, .int (nI t))]) hx hb dX1_reckon_135 hl (by decide) rfl (fun ls hl => ?_)
          refine lv_aload_n hx hb dX1_reckon_137 rfl (lv_at hl 1 rfl) ?_
          refine ww_gX 6 q42 rfl hx hb hts hown hK hP dX1_reckon_138 ?_
          refine lv_iload_n hx hb dX1_reckon_141 rfl (lv_at hl 2 rfl) ?_
          refine lv_bipush (v := nI 26) hx hb dX1_reckon_142 (by decide) ?_
          refine ww_imulc hx hb dX1_reckon_144 ?_
          refine lv_iload_n hx hb dX1_reckon_145 rfl (lv_at hl 3 rfl) ?_
          refine ww_iadd hx hb dX1_reckon_146 ?_
          refine lv_iload_n hx hb dX1_reckon_147 rfl (lv_at hl 3 rfl) ?_
          refine lv_iload_n hx hb dX1_reckon_148 rfl (lv_at hl 2 rfl) ?_
          refine ww_icmp_ne (tgt := 156) hx hb dX1_reckon_149 (by decide) (fun c_149 => ?_) (fun c_149 => ?_)
          · refine lv_iload hx hb dX1_reckon_156 (lv_at hl 0 rfl) ?_
            refine lv_iconst (v := -1) hx hb dX1_reckon_158 (by decide) ?_
            refine lv_icmp_eq (tgt := 173) hx hb dX1_reckon_159 (by decide) (fun c_159 => ?_) (fun c_159 => ?_)
            · refine lv_aload_n hx hb dX1_reckon_173 rfl (lv_at hl 1 rfl) ?_
              refine lv_iload_n hx hb dX1_reckon_174 rfl (lv_at hl 2 rfl) ?_
              refine lv_iload_n hx hb dX1_reckon_175 rfl (lv_at hl 3 rfl) ?_
              refine ww_ro (As := [.int (nI r), .int (nI t)]) (rest := [.int (nI ((26 * r) + t)), .ref (a 6)]) ⟨hx, hb, hml, hown, hts⟩ hK hP (metX1_best l D a d n fW fC fP fX F Y (nI 0) pl cu (ww_g F t) r t hn hN hpin hr c_126 (fun q hq => ⟨hF.1 q t hq c_126, (hF.2 t c_126).1 q hq⟩)) rfl rfl (cwV 2 hts (lw_V q121 q123 qs7 q19 q124) rfl rfl rfl (by decide +kernel) ⟨Nat.le_of_ble_eq_true rfl, Nat.le_of_ble_eq_true rfl⟩) rfl rfl (Nat.le_of_ble_eq_true rfl) hl.1 ⟨Nat.zero_le _, Nat.zero_le _⟩ dX1_reckon_176 (fun r_176 h_176 => ?_)
              have h_176 : r_176 = ww_enc n (ww_pk (ww_val n fW fC fX (ww_g F t) r) (4 * n)) := h_176
              subst h_176
              refine ww_iast hx hb hK hP hD hS 6 5 rfl rfl dX1_reckon_179 (fun H locs hP hD hS => ?_)
              have hP : va_P D ww_cl (ww_X a d n fW fC fP fX F (upd Y ((26 * r) + t) (ww_enc n (ww_pk (ww_val n fW fC fX (ww_g F t) r) (4 * n)))) (nI 0) pl cu) H := hP
              have hD : va_D A (ww_X a d n fW fC fP fX F (upd Y ((26 * r) + t) (ww_enc n (ww_pk (ww_val n fW fC fX (ww_g F t) r) (4 * n)))) (nI 0) pl cu) := hD
              refine lv_iinc (v := nI (t + 1)) (lv' := [(3, .int (nI (t + 1))), (4, .int (ww_dir fW fX r t)), (0, .ref (a 0)), (2, .int (nI r))]) hx hb dX1_reckon_180 hl (k := 3) rfl (ww_inc t) (by decide) rfl (fun ls hl => ?_)
              refine lv_goto (tgt := 123) hx hb dX1_reckon_183 (by decide) ?_
              exact ih (t + 1) (by omega) (by omega) _ (ww_yin_step hy c_126 (by rw [ww_best_eq hn0 hn hN (hs t c_126)]; exact ww_y_best c_149 c_159)) _ _ hP hD hS ls (lv_sub hl [2, 3, 0] rfl)
            · refine lv_bipush (v := nI 16) hx hb dX1_reckon_162 (by decide) ?_
              refine lv_iload hx hb dX1_reckon_164 (lv_at hl 0 rfl) ?_
              refine lv_imul hx hb dX1_reckon_166 ?_
              refine lv_bipush (v := nI 15) hx hb dX1_reckon_167 (by decide) ?_
              refine lv_iadd hx hb dX1_reckon_169 ?_
              refine lv_goto (tgt := 179) hx hb dX1_reckon_170 (by decide) ?_
              refine ww_iast hx hb hK hP hD hS 6 5 rfl rfl dX1_reckon_179 (fun H locs hP hD hS => ?_)
              have hP : va_P D ww_cl (ww_X a d n fW fC fP fX F (upd Y ((26 * r) + t) (((nI 16) * (ww_dir fW fX r t)) + (nI 15))) (nI 0) pl cu) H := hP
              have hD : va_D A (ww_X a d n fW fC fP fX F (upd Y ((26 * r) + t) (((nI 16) * (ww_dir fW fX r t)) + (nI 15))) (nI 0) pl cu) := hD
              refine lv_iinc (v := nI (t + 1)) (lv' := [(3, .int (nI (t + 1))), (4, .int (ww_dir fW fX r t)), (0, .ref (a 0)), (2, .int (nI r))]) hx hb dX1_reckon_180 hl (k := 3) rfl (ww_inc t) (by decide) rfl (fun ls hl => ?_)
              refine lv_goto (tgt := 123) hx hb dX1_reckon_183 (by decide) ?_
              exact ih (t + 1) (by omega) (by omega) _ (ww_yin_step hy c_126 (ww_y_dir c_149 c_159)) _ _ hP hD hS ls (lv_sub hl [2, 3, 0] rfl)
          · refine lv_iconst (v := -1) hx hb dX1_reckon_152 (by decide) ?_
            refine lv_goto (tgt := 179) hx hb dX1_reckon_153 (by decide) ?_
            refine ww_iast hx hb hK hP hD hS 6 5 rfl rfl dX1_reckon_179 (fun H locs hP hD hS => ?_)
            have hP : va_P D ww_cl (ww_X a d n fW fC fP fX F (upd Y ((26 * r) + t) (-1)) (nI 0) pl cu) H := hP
            have hD : va_D A (ww_X a d n fW fC fP fX F (upd Y ((26 * r) + t) (-1)) (nI 0) pl cu) := hD
            refine lv_iinc (v := nI (t + 1)) (lv' := [(3, .int (nI (t + 1))), (4, .int (ww_dir fW fX r t)), (0, .ref (a 0)), (2, .int (nI r))]) hx hb dX1_reckon_180 hl (k := 3) rfl (ww_inc t) (by decide) rfl (fun ls hl => ?_)
            refine lv_goto (tgt := 123) hx hb dX1_reckon_183 (by decide) ?_
            exact ih (t + 1) (by omega) (by omega) _ (ww_yin_step hy c_126 (ww_y_self c_149)) _ _ hP hD hS ls (lv_sub hl [2, 3, 0] rfl)
    have loopR : ∀ (k r : Nat), r ≤ n → n + 1 ≤ r + k → ∀ (Y : Nat → Int32), ww_yin n fW fC fX Y r 0 → ∀ (H : Heap) (locs : List Loc), va_P D ww_cl (ww_X a d n fW fC fP fX F Y (nI 0) pl cu) H → va_D A (ww_X a d n fW fC fP fX F Y (nI 0) pl cu) → va_S A s.heap H locs → ∀ (ls : Array Slot), lv_has ls 5 [(0, .ref (a 0)), (2, .int (nI r))] → W pr l e (headSpec (ws_ yX1_reckon cX1_reckon 5 none) ({ frames := 2, cells := 0, slots := 0, locals := 51 })).room s m ([.ref (a 0)] : List Value).toArray below meth c H locs 0 0 (MQ below (va_Qv (fun (u : (Nat → Int32) × (Nat → Int32) × Int32) => u.2.2 = nI 0 ∧ ww_tab n fW fC fX u.1 u.2.1) (fun (u : (Nat → Int32) × (Nat → Int32) × Int32) t => va_P D ww_cl (ww_X a d n fW fC fP fX u.1 u.2.1 u.2.2 pl cu) t.heap) A) ([.ref (a 0)] : List Value).toArray s 0 0 A) (F0 m 113 ls []) := by
      intro k
      induction k with
      | zero => intro r h1 h2; exact absurd h2 (by omega)
      | succ k ih =>
        intro r h1 h2 Y hy H locs hP hD hS ls hl
        refine lv_iload_n hx hb dX1_reckon_113 rfl (lv_at hl 1 rfl) ?_
        refine lv_aload_n hx hb dX1_reckon_114 rfl (lv_at hl 0 rfl) ?_
        refine ww_gX 0 q36 rfl hx hb hts hown hK hP dX1_reckon_115 ?_
        refine ww_icmp_ge (tgt := 192) hx hb dX1_reckon_118 (by decide) (fun c_118 => ?_) (fun c_118 => ?_)
        · exact W.vret hx hb hret (fun t9 ht9 hW9 => ⟨⟨(F, Y, nI 0), rfl, ⟨rfl, ww_tab_of hn hN hF hs hy c_118⟩, by show va_P _ _ _ t9.heap; rw [ht9]; exact hP⟩, hS.F ht9⟩) hS.2.2 dX1_reckon_192
        · have k186 : ∀ (Y : Nat → Int32), ww_yin n fW fC fX Y (r + 1) 0 → ∀ (H : Heap) (locs : List Loc), va_P D ww_cl (ww_X a d n fW fC fP fX F Y (nI 0) pl cu) H → va_D A (ww_X a d n fW fC fP fX F Y (nI 0) pl cu) → va_S A s.heap H locs → ∀ (ls : Array Slot), lv_has ls 5 [(0, .ref (a 0)), (2, .int (nI r))] → W pr l e (headSpec (ws_ yX1_reckon cX1_reckon 5 none) ({ frames := 2, cells := 0, slots := 0, locals := 51 })).room s m ([.ref (a 0)] : List Value).toArray below meth c H locs 0 0 (MQ below (va_Qv (fun (u : (Nat → Int32) × (Nat → Int32) × Int32) => u.2.2 = nI 0 ∧ ww_tab n fW fC fX u.1 u.2.1) (fun (u : (Nat → Int32) × (Nat → Int32) × Int32) t => va_P D ww_cl (ww_X a d n fW fC fP fX u.1 u.2.1 u.2.2 pl cu) t.heap) A) ([.ref (a 0)] : List Value).toArray s 0 0 A) (F0 m 186 ls []) := by
            intro Y hy H locs hP hD hS ls hl
            refine lv_iinc (v := nI (r + 1)) (lv' := [(2, .int (nI (r + 1))), (0, .ref (a 0))]) hx hb dX1_reckon_186 hl (k := 1) rfl (ww_inc r) (by decide) rfl (fun ls hl => ?_)
            refine lv_goto (tgt := 113) hx hb dX1_reckon_189 (by decide) ?_
            exact ih (r + 1) (by omega) (by omega) Y hy _ _ hP hD hS ls (lv_sub hl [1, 0] rfl)
          refine lv_iconst (v := nI 0) hx hb dX1_reckon_121 (by decide) ?_
          refine lv_istore_n (lv' := [(3, .int (nI 0)), (0, .ref (a 0)), (2, .int (nI r))]) hx hb dX1_reckon_122 rfl hl (by decide) rfl (fun ls hl => ?_)
          exact loopT r c_118 k186 27 0 (by omega) (by omega) Y hy _ _ hP hD hS ls (lv_sub hl [1, 2, 0] rfl)
    intro Y H locs hP hD hS ls hl
    refine lv_iconst (v := nI 0) hx hb dX1_reckon_111 (by decide) ?_
    refine lv_istore_n (lv' := [(2, .int (nI 0)), (0, .ref (a 0))]) hx hb dX1_reckon_112 rfl hl (by decide) rfl (fun ls hl => ?_)
    exact loopR (n + 1) 0 (by omega) (by omega) Y (fun x a _ _ z => by omega) _ _ hP hD hS ls (lv_sub hl [1, 0] rfl)
  have loopP : ∀ (Fz : Nat → Int32), (∀ (more : Int32) (F : Nat → Int32), ww_ps n fW fC fX Fz more F n → ∀ (H : Heap) (locs : List Loc), va_P D ww_cl (ww_X a d n fW fC fP fX F fY (nI 0) pl cu) H → va_D A (ww_X a d n fW fC fP fX F fY (nI 0) pl cu) → va_S A s.heap H locs → ∀ (ls : Array Slot), lv_has ls 5 [(0, .ref (a 0)), (1, .int more)] → W pr l e (headSpec (ws_ yX1_reckon cX1_reckon 5 none) ({ frames := 2, cells := 0, slots := 0, locals := 51 })).room s m ([.ref (a 0)] : List Value).toArray below meth c H locs 0 0 (MQ below (va_Qv (fun (u : (Nat → Int32) × (Nat → Int32) × Int32) => u.2.2 = nI 0 ∧ ww_tab n fW fC fX u.1 u.2.1) (fun (u : (Nat → Int32) × (Nat → Int32) × Int32) t => va_P D ww_cl (ww_X a d n fW fC fP fX u.1 u.2.1 u.2.2 pl cu) t.heap) A) ([.ref (a 0)] : List Value).toArray s 0 0 A) (F0 m 108 ls [])) → ∀ (k r : Nat), r ≤ n → n + 1 ≤ r + k → ∀ (more : Int32) (F : Nat → Int32), ww_ps n fW fC fX Fz more F r → ∀ (H : Heap) (locs : List Loc), va_P D ww_cl (ww_X a d n fW fC fP fX F fY (nI 0) pl cu) H → va_D A (ww_X a d n fW fC fP fX F fY (nI 0) pl cu) → va_S A s.heap H locs → ∀ (ls : Array Slot), lv_has ls 5 [(0, .ref (a 0)), (1, .int more), (2, .int (nI r))] → W pr l e (headSpec (ws_ yX1_reckon cX1_reckon 5 none) ({ frames := 2, cells := 0, slots := 0, locals := 51 })).room s m ([.ref (a 0)] : List Value).toArray below meth c H locs 0 0 (MQ below (va_Qv (fun (u : (Nat → Int32) × (Nat → Int32) × Int32) => u.2.2 = nI 0 ∧ ww_tab n fW fC fX u.1 u.2.1) (fun (u : (Nat → Int32) × (Nat → Int32) × Int32) t => va_P D ww_cl (ww_X a d n fW fC fP fX u.1 u.2.1 u.2.2 pl cu) t.heap) A) ([.ref (a 0)] : List Value).toArray s 0 0 A) (F0 m 86 ls []) := by
    intro Fz kont k
    induction k with
    | zero => intro r h1 h2; exact absurd h2 (by omega)
    | succ k ih =>
      intro r h1 h2 more F hB H locs hP hD hS ls hl
      refine lv_iload_n hx hb dX1_reckon_86 rfl (lv_at hl 2 rfl) ?_
      refine lv_aload_n hx hb dX1_reckon_87 rfl (lv_at hl 0 rfl) ?_
      refine ww_gX 0 q36 rfl hx hb hts hown hK hP dX1_reckon_88 ?_
      refine ww_icmp_ge (tgt := 108) hx hb dX1_reckon_91 (by decide) (fun c_91 => ?_) (fun c_91 => ?_)
      · have er : r = n := by omega
        subst er
        exact kont more F hB _ _ hP hD hS ls (lv_sub hl [0, 1] rfl)
      · refine lv_iload_n hx hb dX1_reckon_94 rfl (lv_at hl 1 rfl) ?_
        refine lv_aload_n hx hb dX1_reckon_95 rfl (lv_at hl 0 rfl) ?_
        refine lv_iload_n hx hb dX1_reckon_96 rfl (lv_at hl 2 rfl) ?_
        refine ww_rw (As := [.int (nI r)]) (rest := [.int more]) ⟨hx, hb, hml, hown, hts⟩ hK hP hD hS hA (metX1_better l D a d n fW fC fP fX F fY (nI 0) pl cu _ r hn hN hpin c_91 hB.1) rfl rfl (cwV 1 hts (lw_V q113 q115 qs5 q19 q116) rfl rfl rfl (by decide +kernel) ⟨Nat.le_of_ble_eq_true rfl, Nat.le_of_ble_eq_true rfl⟩) rfl rfl (Nat.le_of_ble_eq_true rfl) hl.1 ⟨Nat.zero_le _, Nat.zero_le _⟩ dX1_reckon_97 (fun r_97 u_97 H locs h_97 hP hk_97 hS => ?_)
        have hP : va_P D ww_cl (ww_X a d n fW fC fP fX u_97 fY (nI 0) pl cu) H := hP
        have hD : va_D A (ww_X a d n fW fC fP fX u_97 fY (nI 0) pl cu) := ww_Dad hD rfl
        refine lv_ior hx hb dX1_reckon_100 ?_
        refine lv_istore_n (lv' := [(1, .int (more ||| r_97)), (0, .ref (a 0)), (2, .int (nI r))]) hx hb dX1_reckon_101 rfl hl (by decide) rfl (fun ls hl => ?_)
        refine lv_iinc (v := nI (r + 1)) (lv' := [(2, .int (nI (r + 1))), (1, .int (more ||| r_97)), (0, .ref (a 0))]) hx hb dX1_reckon_102 hl (k := 2) rfl (ww_inc r) (by decide) rfl (fun ls hl => ?_)
        refine lv_goto (tgt := 86) hx hb dX1_reckon_105 (by decide) ?_
        exact ih (r + 1) (by omega) (by omega) _ u_97 (ww_ps_step hB h_97) _ _ hP hD hS ls (lv_sub hl [2, 1, 0] rfl)
  have done : ∀ (F : Nat → Int32), ww_fin n fW fC fX F → (∀ a, a < 26 → ww_sol 9999 n fW fC fX a (ww_g F a)) → ∀ (H : Heap) (locs : List Loc), va_P D ww_cl (ww_X a d n fW fC fP fX F fY (nI 0) pl cu) H → va_D A (ww_X a d n fW fC fP fX F fY (nI 0) pl cu) → va_S A s.heap H locs → ∀ (ls : Array Slot), lv_has ls 5 [(0, .ref (a 0)), (1, .int (nI 0))] → W pr l e (headSpec (ws_ yX1_reckon cX1_reckon 5 none) ({ frames := 2, cells := 0, slots := 0, locals := 51 })).room s m ([.ref (a 0)] : List Value).toArray below meth c H locs 0 0 (MQ below (va_Qv (fun (u : (Nat → Int32) × (Nat → Int32) × Int32) => u.2.2 = nI 0 ∧ ww_tab n fW fC fX u.1 u.2.1) (fun (u : (Nat → Int32) × (Nat → Int32) × Int32) t => va_P D ww_cl (ww_X a d n fW fC fP fX u.1 u.2.1 u.2.2 pl cu) t.heap) A) ([.ref (a 0)] : List Value).toArray s 0 0 A) (F0 m 78 ls []) := by
    intro F hF hs H locs hP hD hS ls hl
    refine lv_iload_n hx hb dX1_reckon_78 rfl (lv_at hl 1 rfl) ?_
    refine ww_if_eq (tgt := 111) hx hb dX1_reckon_79 (by decide) (fun c_79 => ?_) (fun c_79 => ?_)
    · exact ph3 F hF hs fY _ _ hP hD hS ls (lv_sub hl [0] rfl)
    · exact absurd rfl c_79
  have loopW : ∀ (k : Nat) (F : Nat → Int32), ww_fin n fW fC fX F → ww_sm F 260 < k → ∀ (H : Heap) (locs : List Loc), va_P D ww_cl (ww_X a d n fW fC fP fX F fY (nI 0) pl cu) H → va_D A (ww_X a d n fW fC fP fX F fY (nI 0) pl cu) → va_S A s.heap H locs → ∀ (ls : Array Slot), lv_has ls 5 [(0, .ref (a 0)), (1, .int (nI 1))] → W pr l e (headSpec (ws_ yX1_reckon cX1_reckon 5 none) ({ frames := 2, cells := 0, slots := 0, locals := 51 })).room s m ([.ref (a 0)] : List Value).toArray below meth c H locs 0 0 (MQ below (va_Qv (fun (u : (Nat → Int32) × (Nat → Int32) × Int32) => u.2.2 = nI 0 ∧ ww_tab n fW fC fX u.1 u.2.1) (fun (u : (Nat → Int32) × (Nat → Int32) × Int32) t => va_P D ww_cl (ww_X a d n fW fC fP fX u.1 u.2.1 u.2.2 pl cu) t.heap) A) ([.ref (a 0)] : List Value).toArray s 0 0 A) (F0 m 78 ls []) := by
    intro k
    induction k with
    | zero => intro F hF h2; exact absurd h2 (by omega)
    | succ k ih =>
      intro F hF h2 H locs hP hD hS ls hl
      refine lv_iload_n hx hb dX1_reckon_78 rfl (lv_at hl 1 rfl) ?_
      refine ww_if_eq (tgt := 111) hx hb dX1_reckon_79 (by decide) (fun c_79 => ?_) (fun c_79 => ?_)
      · exact absurd c_79 (by decide)
      · have k108 : ∀ (more : Int32) (F2 : Nat → Int32), ww_ps n fW fC fX F more F2 n → ∀ (H : Heap) (locs : List Loc), va_P D ww_cl (ww_X a d n fW fC fP fX F2 fY (nI 0) pl cu) H → va_D A (ww_X a d n fW fC fP fX F2 fY (nI 0) pl cu) → va_S A s.heap H locs → ∀ (ls : Array Slot), lv_has ls 5 [(0, .ref (a 0)), (1, .int more)] → W pr l e (headSpec (ws_ yX1_reckon cX1_reckon 5 none) ({ frames := 2, cells := 0, slots := 0, locals := 51 })).room s m ([.ref (a 0)] : List Value).toArray below meth c H locs 0 0 (MQ below (va_Qv (fun (u : (Nat → Int32) × (Nat → Int32) × Int32) => u.2.2 = nI 0 ∧ ww_tab n fW fC fX u.1 u.2.1) (fun (u : (Nat → Int32) × (Nat → Int32) × Int32) t => va_P D ww_cl (ww_X a d n fW fC fP fX u.1 u.2.1 u.2.2 pl cu) t.heap) A) ([.ref (a 0)] : List Value).toArray s 0 0 A) (F0 m 108 ls []) := by
          intro more F2 hB H locs hP hD hS ls hl
          refine lv_goto (tgt := 78) hx hb dX1_reckon_108 (by decide) ?_
          rcases hB.2 with ⟨rfl, z2, z⟩ | ⟨rfl, z⟩
          · exact done F2 hB.1 (ww_fin_sol hB.1 (by rw [z2]; exact z)) _ _ hP hD hS ls (lv_sub hl [0, 1] rfl)
          · exact ih F2 hB.1 (by omega) _ _ hP hD hS ls (lv_sub hl [0, 1] rfl)
        refine lv_iconst (v := nI 0) hx hb dX1_reckon_82 (by decide) ?_
        refine lv_istore_n (lv' := [(1, .int (nI 0)), (0, .ref (a 0))]) hx hb dX1_reckon_83 rfl hl (by decide) rfl (fun ls hl => ?_)
        refine lv_iconst (v := nI 0) hx hb dX1_reckon_84 (by decide) ?_
        refine lv_istore_n (lv' := [(2, .int (nI 0)), (1, .int (nI 0)), (0, .ref (a 0))]) hx hb dX1_reckon_85 rfl hl (by decide) rfl (fun ls hl => ?_)
        exact loopP F k108 (n + 1) 0 (by omega) (by omega) (nI 0) F ⟨hF, Or.inl ⟨rfl, rfl, fun x z => by omega⟩⟩ _ _ hP hD hS ls (lv_sub hl [2, 1, 0] rfl)
  have loopI : ∀ (r : Nat), r < n → (∀ (F : Nat → Int32), ww_ini n fW fX F (r + 1) 0 → ∀ (H : Heap) (locs : List Loc), va_P D ww_cl (ww_X a d n fW fC fP fX F fY (nI 0) pl cu) H → va_D A (ww_X a d n fW fC fP fX F fY (nI 0) pl cu) → va_S A s.heap H locs → ∀ (ls : Array Slot), lv_has ls 5 [(0, .ref (a 0)), (1, .int (nI r))] → W pr l e (headSpec (ws_ yX1_reckon cX1_reckon 5 none) ({ frames := 2, cells := 0, slots := 0, locals := 51 })).room s m ([.ref (a 0)] : List Value).toArray below meth c H locs 0 0 (MQ below (va_Qv (fun (u : (Nat → Int32) × (Nat → Int32) × Int32) => u.2.2 = nI 0 ∧ ww_tab n fW fC fX u.1 u.2.1) (fun (u : (Nat → Int32) × (Nat → Int32) × Int32) t => va_P D ww_cl (ww_X a d n fW fC fP fX u.1 u.2.1 u.2.2 pl cu) t.heap) A) ([.ref (a 0)] : List Value).toArray s 0 0 A) (F0 m 70 ls [])) → ∀ (k t : Nat), t ≤ 26 → 27 ≤ t + k → ∀ (F : Nat → Int32), ww_ini n fW fX F r t → ∀ (H : Heap) (locs : List Loc), va_P D ww_cl (ww_X a d n fW fC fP fX F fY (nI 0) pl cu) H → va_D A (ww_X a d n fW fC fP fX F fY (nI 0) pl cu) → va_S A s.heap H locs → ∀ (ls : Array Slot), lv_has ls 5 [(0, .ref (a 0)), (1, .int (nI r)), (2, .int (nI t))] → W pr l e (headSpec (ws_ yX1_reckon cX1_reckon 5 none) ({ frames := 2, cells := 0, slots := 0, locals := 51 })).room s m ([.ref (a 0)] : List Value).toArray below meth c H locs 0 0 (MQ below (va_Qv (fun (u : (Nat → Int32) × (Nat → Int32) × Int32) => u.2.2 = nI 0 ∧ ww_tab n fW fC fX u.1 u.2.1) (fun (u : (Nat → Int32) × (Nat → Int32) × Int32) t => va_P D ww_cl (ww_X a d n fW fC fP fX u.1 u.2.1 u.2.2 pl cu) t.heap) A) ([.ref (a 0)] : List Value).toArray s 0 0 A) (F0 m 25 ls []) := by
    intro r hr kont k
    induction k with
    | zero => intro t h1 h2; exact absurd h2 (by omega)
    | succ k ih =>
      intro t h1 h2 F hi H locs hP hD hS ls hl
      refine lv_iload_n hx hb dX1_reckon_25 rfl (lv_at hl 2 rfl) ?_
      refine lv_bipush (v := nI 26) hx hb dX1_reckon_26 (by decide) ?_
      refine ww_icmp_ge (tgt := 70) hx hb dX1_reckon_28 (by decide) (fun c_28 => ?_) (fun c_28 => ?_)
      · exact kont F (ww_ini_row hi c_28) _ _ hP hD hS ls (lv_sub hl [0, 1] rfl)
      · refine lv_aload_n hx hb dX1_reckon_31 rfl (lv_at hl 0 rfl) ?_
        refine ww_gX 5 q41 rfl hx hb hts hown hK hP dX1_reckon_32 ?_
        refine lv_iload_n hx hb dX1_reckon_35 rfl (lv_at hl 1 rfl) ?_
        refine lv_bipush (v := nI 26) hx hb dX1_reckon_36 (by decide) ?_
        refine ww_imulc hx hb dX1_reckon_38 ?_
        refine lv_iload_n hx hb dX1_reckon_39 rfl (lv_at hl 2 rfl) ?_
        refine ww_iadd hx hb dX1_reckon_40 ?_
        refine lv_iload_n hx hb dX1_reckon_41 rfl (lv_at hl 2 rfl) ?_
        refine lv_iload_n hx hb dX1_reckon_42 rfl (lv_at hl 1 rfl) ?_
        refine ww_icmp_eq (tgt := 56) hx hb dX1_reckon_43 (by decide) (fun c_43 => ?_) (fun c_43 => ?_)
        · refine lv_iconst (v := nI 0) hx hb dX1_reckon_56 (by decide) ?_
          refine lv_goto (tgt := 63) hx hb dX1_reckon_57 (by decide) ?_
          refine ww_iast hx hb hK hP hD hS 5 4 rfl rfl dX1_reckon_63 (fun H locs hP hD hS => ?_)
          have hP : va_P D ww_cl (ww_X a d n fW fC fP fX (upd F ((26 * r) + t) (nI 0)) fY (nI 0) pl cu) H := hP
          have hD : va_D A (ww_X a d n fW fC fP fX (upd F ((26 * r) + t) (nI 0)) fY (nI 0) pl cu) := hD
          refine lv_iinc (v := nI (t + 1)) (lv' := [(2, .int (nI (t + 1))), (0, .ref (a 0)), (1, .int (nI r))]) hx hb dX1_reckon_64 hl (k := 2) rfl (ww_inc t) (by decide) rfl (fun ls hl => ?_)
          refine lv_goto (tgt := 25) hx hb dX1_reckon_67 (by decide) ?_
          exact ih (t + 1) (by omega) (by omega) _ (ww_ini_step hi c_28 (ww_i0_t (by omega) (Or.inl c_43))) _ _ hP hD hS ls (lv_sub hl [1, 2, 0] rfl)
        · refine lv_aload_n hx hb dX1_reckon_46 rfl (lv_at hl 0 rfl) ?_
          refine lv_iload_n hx hb dX1_reckon_47 rfl (lv_at hl 1 rfl) ?_
          refine lv_iload_n hx hb dX1_reckon_48 rfl (lv_at hl 2 rfl) ?_
          refine ww_ro (As := [.int (nI r), .int (nI t)]) (rest := [.int (nI ((26 * r) + t)), .ref (a 5)]) ⟨hx, hb, hml, hown, hts⟩ hK hP (metX1_direct l D a d n fW fC fP fX F fY (nI 0) pl cu r t hn hpin hr c_28) rfl rfl (cwV 2 hts (lw_V q109 q111 qs4 q19 q112) rfl rfl rfl (by decide +kernel) ⟨Nat.le_of_ble_eq_true rfl, Nat.le_of_ble_eq_true rfl⟩) rfl rfl (Nat.le_of_ble_eq_true rfl) hl.1 ⟨Nat.zero_le _, Nat.zero_le _⟩ dX1_reckon_49 (fun r_49 h_49 => ?_)
          have h_49 : r_49 = ww_dir fW fX r t := h_49
          subst h_49
          refine lv_iconst (v := -1) hx hb dX1_reckon_52 (by decide) ?_
          refine lv_icmp_eq (tgt := 60) hx hb dX1_reckon_53 (by decide) (fun c_53 => ?_) (fun c_53 => ?_)
          · refine lv_sipush (v := nI 9999) hx hb dX1_reckon_60 (by decide) ?_
            refine ww_iast hx hb hK hP hD hS 5 4 rfl rfl dX1_reckon_63 (fun H locs hP hD hS => ?_)
            have hP : va_P D ww_cl (ww_X a d n fW fC fP fX (upd F ((26 * r) + t) (nI 9999)) fY (nI 0) pl cu) H := hP
            have hD : va_D A (ww_X a d n fW fC fP fX (upd F ((26 * r) + t) (nI 9999)) fY (nI 0) pl cu) := hD
            refine lv_iinc (v := nI (t + 1)) (lv' := [(2, .int (nI (t + 1))), (0, .ref (a 0)), (1, .int (nI r))]) hx hb dX1_reckon_64 hl (k := 2) rfl (ww_inc t) (by decide) rfl (fun ls hl => ?_)
            refine lv_goto (tgt := 25) hx hb dX1_reckon_67 (by decide) ?_
            exact ih (t + 1) (by omega) (by omega) _ (ww_ini_step hi c_28 (ww_i0_f (by omega) c_43 c_53)) _ _ hP hD hS ls (lv_sub hl [1, 2, 0] rfl)
          · refine lv_iconst (v := nI 0) hx hb dX1_reckon_56 (by decide) ?_
            refine lv_goto (tgt := 63) hx hb dX1_reckon_57 (by decide) ?_
            refine ww_iast hx hb hK hP hD hS 5 4 rfl rfl dX1_reckon_63 (fun H locs hP hD hS => ?_)
            have hP : va_P D ww_cl (ww_X a d n fW fC fP fX (upd F ((26 * r) + t) (nI 0)) fY (nI 0) pl cu) H := hP
            have hD : va_D A (ww_X a d n fW fC fP fX (upd F ((26 * r) + t) (nI 0)) fY (nI 0) pl cu) := hD
            refine lv_iinc (v := nI (t + 1)) (lv' := [(2, .int (nI (t + 1))), (0, .ref (a 0)), (1, .int (nI r))]) hx hb dX1_reckon_64 hl (k := 2) rfl (ww_inc t) (by decide) rfl (fun ls hl => ?_)
            refine lv_goto (tgt := 25) hx hb dX1_reckon_67 (by decide) ?_
            exact ih (t + 1) (by omega) (by omega) _ (ww_ini_step hi c_28 (ww_i0_t (by omega) (Or.inr c_53))) _ _ hP hD hS ls (lv_sub hl [1, 2, 0] rfl)
  have loopJ : ∀ (k r : Nat), r ≤ n → n + 1 ≤ r + k → ∀ (F : Nat → Int32), ww_ini n fW fX F r 0 → ∀ (H : Heap) (locs : List Loc), va_P D ww_cl (ww_X a d n fW fC fP fX F fY (nI 0) pl cu) H → va_D A (ww_X a d n fW fC fP fX F fY (nI 0) pl cu) → va_S A s.heap H locs → ∀ (ls : Array Slot), lv_has ls 5 [(0, .ref (a 0)), (1, .int (nI r))] → W pr l e (headSpec (ws_ yX1_reckon cX1_reckon 5 none) ({ frames := 2, cells := 0, slots := 0, locals := 51 })).room s m ([.ref (a 0)] : List Value).toArray below meth c H locs 0 0 (MQ below (va_Qv (fun (u : (Nat → Int32) × (Nat → Int32) × Int32) => u.2.2 = nI 0 ∧ ww_tab n fW fC fX u.1 u.2.1) (fun (u : (Nat → Int32) × (Nat → Int32) × Int32) t => va_P D ww_cl (ww_X a d n fW fC fP fX u.1 u.2.1 u.2.2 pl cu) t.heap) A) ([.ref (a 0)] : List Value).toArray s 0 0 A) (F0 m 15 ls []) := by
    intro k
    induction k with
    | zero => intro r h1 h2; exact absurd h2 (by omega)
    | succ k ih =>
      intro r h1 h2 F hi H locs hP hD hS ls hl
      refine lv_iload_n hx hb dX1_reckon_15 rfl (lv_at hl 1 rfl) ?_
      refine lv_aload_n hx hb dX1_reckon_16 rfl (lv_at hl 0 rfl) ?_
      refine ww_gX 0 q36 rfl hx hb hts hown hK hP dX1_reckon_17 ?_
      refine ww_icmp_ge (tgt := 76) hx hb dX1_reckon_20 (by decide) (fun c_20 => ?_) (fun c_20 => ?_)
      · refine lv_iconst (v := nI 1) hx hb dX1_reckon_76 (by decide) ?_
        refine lv_istore_n (lv' := [(1, .int (nI 1)), (0, .ref (a 0))]) hx hb dX1_reckon_77 rfl hl (by decide) rfl (fun ls hl => ?_)
        have hF := ww_ini_fin (C := fC) hi c_20
        exact loopW (ww_sm F 260 + 1) F hF (by omega) _ _ hP hD hS ls (lv_sub hl [1, 0] rfl)
      · have k70 : ∀ (F : Nat → Int32), ww_ini n fW fX F (r + 1) 0 → ∀ (H : Heap) (locs : List Loc), va_P D ww_cl (ww_X a d n fW fC fP fX F fY (nI 0) pl cu) H → va_D A (ww_X a d n fW fC fP fX F fY (nI 0) pl cu) → va_S A s.heap H locs → ∀ (ls : Array Slot), lv_has ls 5 [(0, .ref (a 0)), (1, .int (nI r))] → W pr l e (headSpec (ws_ yX1_reckon cX1_reckon 5 none) ({ frames := 2, cells := 0, slots := 0, locals := 51 })).room s m ([.ref (a 0)] : List Value).toArray below meth c H locs 0 0 (MQ below (va_Qv (fun (u : (Nat → Int32) × (Nat → Int32) × Int32) => u.2.2 = nI 0 ∧ ww_tab n fW fC fX u.1 u.2.1) (fun (u : (Nat → Int32) × (Nat → Int32) × Int32) t => va_P D ww_cl (ww_X a d n fW fC fP fX u.1 u.2.1 u.2.2 pl cu) t.heap) A) ([.ref (a 0)] : List Value).toArray s 0 0 A) (F0 m 70 ls []) := by
          intro F hi H locs hP hD hS ls hl
          refine lv_iinc (v := nI (r + 1)) (lv' := [(1, .int (nI (r + 1))), (0, .ref (a 0))]) hx hb dX1_reckon_70 hl (k := 1) rfl (ww_inc r) (by decide) rfl (fun ls hl => ?_)
          refine lv_goto (tgt := 15) hx hb dX1_reckon_73 (by decide) ?_
          exact ih (r + 1) (by omega) (by omega) F hi _ _ hP hD hS ls (lv_sub hl [1, 0] rfl)
        refine lv_iconst (v := nI 0) hx hb dX1_reckon_23 (by decide) ?_
        refine lv_istore_n (lv' := [(2, .int (nI 0)), (0, .ref (a 0)), (1, .int (nI r))]) hx hb dX1_reckon_24 rfl hl (by decide) rfl (fun ls hl => ?_)
        exact loopI r c_20 k70 27 0 (by omega) (by omega) F hi _ _ hP hD hS ls (lv_sub hl [1, 2, 0] rfl)
  refine lv_aload_n hx hb dX1_reckon_0 rfl (lv_at hl 0 rfl) ?_
  refine ww_gX 7 q43 rfl hx hb hts hown hK hP dX1_reckon_1 ?_
  refine lv_if_ne (tgt := 8) hx hb dX1_reckon_4 (by decide) (fun c_4 => ?_) (fun c_4 => ?_)
  · refine lv_aload_n hx hb dX1_reckon_8 rfl (lv_at hl 0 rfl) ?_
    refine lv_iconst (v := nI 0) hx hb dX1_reckon_9 (by decide) ?_
    refine ww_pX 7 q43 hx hb hts hown hK hP hD hS (ty := .boolean) (by decide +kernel) rfl rfl dX1_reckon_10 (fun H locs hP hD hS => ?_)
    have hP : va_P D ww_cl (ww_X a d n fW fC fP fX fF fY (nI 0) pl cu) H := hP
    have hD : va_D A (ww_X a d n fW fC fP fX fF fY (nI 0) pl cu) := hD
    refine lv_iconst (v := nI 0) hx hb dX1_reckon_13 (by decide) ?_
    refine lv_istore_n (lv' := [(1, .int (nI 0)), (0, .ref (a 0))]) hx hb dX1_reckon_14 rfl hl (by decide) rfl (fun ls hl => ?_)
    exact loopJ (n + 1) 0 (by omega) (by omega) fF (fun x a _ _ z => by omega) _ _ hP hD hS ls (lv_sub hl [1, 0] rfl)
  · exact W.vret hx hb hret (fun t9 ht9 hW9 => ⟨⟨(fF, fY, ol), rfl, ⟨c_4, htab c_4⟩, by show va_P _ _ _ t9.heap; rw [ht9]; exact hP⟩, hS.F ht9⟩) hS.2.2 dX1_reckon_7
end
section
/-! plain facts for what is asked -/
theorem ww_q_ok {n : Nat} {S : Nat → Nat → Int32} {r ov t : Int32} (h : ww_ok n r ov t) : ww_q n S r ov t = S r.toNatClampNeg (ww_aim ov t) := if_pos h
theorem ww_q_no {n : Nat} {S : Nat → Nat → Int32} {r ov t : Int32} (h : ¬ ww_ok n r ov t) : ww_q n S r ov t = -1 := if_neg h
theorem ww_isR_nat {n : Nat} {r : Int32} (hn : n ≤ 10) (h : ww_isR n r) : r.toNatClampNeg < n ∧ r = nI r.toNatClampNeg := by
  obtain ⟨i, hi, rfl⟩ := ww_rng (by omega) h.1 h.2
  rw [nI_clamp (by omega)]
  exact ⟨hi, rfl⟩
theorem ww_ok_nat {n : Nat} {r ov t : Int32} (hn : n ≤ 10) (h : ww_ok n r ov t) : r.toNatClampNeg < n ∧ ww_aim ov t < 26 := by
  refine ⟨(ww_isR_nat hn h.1).1, ?_⟩
  unfold ww_aim
  by_cases c : ov = 0
  · have h2 := h.2.2
    rw [if_pos c] at h2
    obtain ⟨j, hj, rfl⟩ := ww_rng (by omega) h.2.1 h2
    rw [if_pos c, nI_clamp (by omega)]
    omega
  · have h2 := h.2.2
    rw [if_neg c] at h2
    obtain ⟨j, hj, rfl⟩ := ww_rng (by omega) h.2.1 h2
    rw [if_neg c, nI_clamp (by omega)]
    omega
theorem ww_far_1 {n : Nat} {W C X : Nat → Int32} {r a : Nat} (h : ¬ ww_D n W C X a r = 9999) (h2 : ww_D n W C X a r ≤ 9999) : ww_farS n W C X r a = nI (ww_D n W C X a r) := if_pos (by omega)
theorem ww_far_0 {n : Nat} {W C X : Nat → Int32} {r a : Nat} (h : ww_D n W C X a r = 9999) : ww_farS n W C X r a = -1 := if_neg (by omega)
theorem ww_dir_lt {W X : Nat → Int32} {r a : Nat} : ww_dir W X r a = -1 ∨ ∃ p, p < 4 ∧ ww_dir W X r a = nI p := by
  unfold ww_dir
  split
  · rcases ww_po_lt W r (nI (a - 10)) with h | ⟨p, hp, e, -⟩
    · exact Or.inl h
    · exact Or.inr ⟨p, hp, e⟩
  · exact Or.inl rfl
/-- what the table of ways says, by cases -/
theorem ww_y_cases {n : Nat} {W C X : Nat → Int32} {r a : Nat} (h0 : 0 < n) (hn : n ≤ 10) : (ww_y n W C X r a = -1 ∧ ww_portS n W C X r a = -1 ∧ ww_nextS n W C X r a = -1) ∨ (∃ p, p < 4 ∧ ww_y n W C X r a = nI (16 * p + 15) ∧ ww_portS n W C X r a = nI p ∧ ww_nextS n W C X r a = -1) ∨ (∃ p q, p < 4 ∧ q < n ∧ ww_y n W C X r a = nI (16 * p + q) ∧ ww_portS n W C X r a = nI p ∧ ww_nextS n W C X r a = nI q) := by
  unfold ww_y ww_portS ww_nextS
  by_cases e : a = r
  · rw [if_pos e, if_pos e, if_pos e]
    exact Or.inl ⟨rfl, rfl, rfl⟩
  · rw [if_neg e, if_neg e, if_neg e]
    rcases ww_dir_lt (W := W) (X := X) (r := r) (a := a) with h | ⟨p, hp, h⟩
    · rw [h]
      rw [if_neg (fun z : (-1 : Int32) ≠ -1 => z rfl), if_neg (fun z : (-1 : Int32) ≠ -1 => z rfl), if_neg (fun z : (-1 : Int32) ≠ -1 => z rfl)]
      cases hb : ww_best n W C X r a with
      | none => exact Or.inl ⟨rfl, rfl, rfl⟩
      | some k =>
        have hk := (ww_pk_lt hb).1
        refine Or.inr (Or.inr ⟨k / n, k % n, ?_, Nat.mod_lt _ h0, rfl, rfl, rfl⟩)
        exact Nat.div_lt_of_lt_mul (by rw [Nat.mul_comm]; exact hk)
    · rw [h]
      have hnm : nI p ≠ -1 := ww_nm1 (by omega)
      rw [if_pos hnm, if_pos hnm, if_pos hnm]
      refine Or.inr (Or.inl ⟨p, hp, ?_, rfl, rfl⟩)
      rw [pk_mul, nI_add]
theorem ww_sh4 {k : Nat} (h : k < 2 ^ 31) : nI k >>> (nI 4 &&& 31) = nI (k / 16) := pk_shrN h (nI 4 &&& 31) 4 (by decide)
theorem ww_an15 {k : Nat} (h : k < 2 ^ 31) : nI k &&& nI 15 = nI (k % 16) := pk_andN (by omega) 4 (by decide)
theorem ww_port_1 {n : Nat} {W C X : Nat → Int32} {r a : Nat} (h0 : 0 < n) (hn : n ≤ 10) (h : ¬ ww_y n W C X r a = -1) : ww_y n W C X r a >>> (nI 4 &&& 31) = ww_portS n W C X r a := by
  rcases ww_y_cases (W := W) (C := C) (X := X) (r := r) (a := a) h0 hn with ⟨e, -, -⟩ | ⟨p, hp, e1, e2, e3⟩ | ⟨p, q, hp, hq, e1, e2, e3⟩
  · exact absurd e h
  · rw [e1, e2, ww_sh4 (by omega)]
    congr 1
    omega
  · rw [e1, e2, ww_sh4 (by omega)]
    congr 1
    omega
theorem ww_port_0 {n : Nat} {W C X : Nat → Int32} {r a : Nat} (h0 : 0 < n) (hn : n ≤ 10) (h : ww_y n W C X r a = -1) : ww_portS n W C X r a = -1 := by
  rcases ww_y_cases (W := W) (C := C) (X := X) (r := r) (a := a) h0 hn with ⟨-, e, -⟩ | ⟨p, hp, e1, e2, e3⟩ | ⟨p, q, hp, hq, e1, e2, e3⟩
  · exact e
  · rw [h] at e1
    exact absurd e1.symm (ww_nm1 (by omega))
  · rw [h] at e1
    exact absurd e1.symm (ww_nm1 (by omega))
theorem ww_next_1 {n : Nat} {W C X : Nat → Int32} {r a : Nat} (h0 : 0 < n) (hn : n ≤ 10) (h : ¬ ww_y n W C X r a = -1) (h2 : ¬ ww_y n W C X r a &&& nI 15 = nI 15) : ww_y n W C X r a &&& nI 15 = ww_nextS n W C X r a := by
  rcases ww_y_cases (W := W) (C := C) (X := X) (r := r) (a := a) h0 hn with ⟨e, -, -⟩ | ⟨p, hp, e1, e2, e3⟩ | ⟨p, q, hp, hq, e1, e2, e3⟩
  · exact absurd e h
  · rw [e1, ww_an15 (by omega)] at h2
    exact absurd (congrArg nI (by omega)) h2
  · rw [e1, e3, ww_an15 (by omega)]
    congr 1
    omega
theorem ww_next_0 {n : Nat} {W C X : Nat → Int32} {r a : Nat} (h0 : 0 < n) (hn : n ≤ 10) (h : ww_y n W C X r a = -1 ∨ ww_y n W C X r a &&& nI 15 = nI 15) : ww_nextS n W C X r a = -1 := by
  rcases ww_y_cases (W := W) (C := C) (X := X) (r := r) (a := a) h0 hn with ⟨-, -, e⟩ | ⟨p, hp, e1, e2, e3⟩ | ⟨p, q, hp, hq, e1, e2, e3⟩
  · exact e
  · exact e3
  · rcases h with h | h
    · rw [h] at e1
      exact absurd e1.symm (ww_nm1 (by omega))
    · rw [e1, ww_an15 (by omega), nI_eq (by omega) (by omega)] at h
      omega
theorem ww_wk_m1 (f : Int32 → Int32) : ∀ k, ww_wk f k (-1) = -1 := by
  intro k
  cases k with
  | zero => rfl
  | succ k => unfold ww_wk; rw [if_pos rfl]
theorem ww_wk_s (f : Int32 → Int32) {k i : Nat} {v : Int32} (h : i < k) (hv : ¬ v = -1) : ww_wk f (k - i) v = ww_wk f (k - (i + 1)) (f v) := by
  obtain ⟨j, rfl⟩ : ∃ j, k = i + (j + 1) := ⟨k - i - 1, by omega⟩
  have e1 : i + (j + 1) - i = j + 1 := by omega
  have e2 : i + (j + 1) - (i + 1) = j := by omega
  rw [e1, e2]
  show (if v = -1 then -1 else ww_wk f j (f v)) = _
  rw [if_neg hv]
/-- the walk's answer -/
noncomputable def ww_walkS (n : Nat) (W C X : Nat → Int32) (r ov t k : Int32) : Int32 := if k < 0 ∨ ww_q n (ww_farS n W C X) r ov t = -1 then -1 else ww_wk (fun x => ww_q n (ww_nextS n W C X) x ov t) k.toNatClampNeg r
noncomputable def ww_reachS (n : Nat) (W C X : Nat → Int32) (r : Int32) : Int32 := if ww_isR n r then nI (ww_rc (fun t => ww_q n (ww_farS n W C X) r (nI 0) (nI t)) n) else -1
theorem ww_ok_rt {n r t : Nat} (hn : n ≤ 10) (hr : r < n) (ht : t < n) : ww_ok n (nI r) (nI 0) (nI t) ∧ (nI r).toNatClampNeg = r ∧ ww_aim (nI 0) (nI t) = t := by
  refine ⟨⟨⟨nI_pos (by omega), nI_ge hr (by omega)⟩, nI_pos (by omega), ?_⟩, nI_clamp (by omega), ?_⟩
  · rw [if_pos (by decide)]
    exact nI_ge ht (by omega)
  · unfold ww_aim
    rw [if_pos (by decide), nI_clamp (by omega)]
theorem ww_q_rt {n : Nat} {W C X : Nat → Int32} {r t : Nat} (hn : n ≤ 10) (hr : r < n) (ht : t < n) : ww_q n (ww_farS n W C X) (nI r) (nI 0) (nI t) = ww_farS n W C X r t := by
  obtain ⟨h1, h2, h3⟩ := ww_ok_rt hn hr ht
  rw [ww_q_ok h1, h2, h3]
/-- the greatest distance on its way -/
def ww_gi (n : Nat) (W C X : Nat → Int32) (M : Nat) (dn : Nat → Nat → Prop) : Prop := M ≤ 9999 ∧ (∀ r t, r < n → t < n → dn r t → ww_D n W C X t r < 9999 → ww_D n W C X t r ≤ M) ∧ (M = 0 ∨ ∃ r t, r < n ∧ t < n ∧ ww_D n W C X t r < 9999 ∧ ww_D n W C X t r = M)
noncomputable def ww_m2 (n : Nat) (W C X : Nat → Int32) (M r t : Nat) : Nat := if ww_D n W C X t r < 9999 ∧ M < ww_D n W C X t r then ww_D n W C X t r else M
theorem ww_m2_max {n : Nat} {W C X : Nat → Int32} {M r t : Nat} (hM : M ≤ 9999) : (if nI M < ww_farS n W C X r t then ww_farS n W C X r t else nI M) = nI (ww_m2 n W C X M r t) := by
  unfold ww_farS ww_m2
  by_cases h : ww_D n W C X t r < 9999
  · simp only [if_pos h]
    by_cases h2 : M < ww_D n W C X t r
    · rw [if_pos (nI_lt h2 (by omega)), if_pos ⟨h, h2⟩]
    · rw [if_neg (nI_nlt (by omega) (by omega)), if_neg (fun z => h2 z.2)]
  · simp only [if_neg h]
    have hz : ¬ nI M < -1 := by
      intro z
      rw [Int32.lt_iff_toInt_lt, nI_toInt (by omega), ww_m1] at z
      omega
    rw [if_neg hz, if_neg (fun z => h z.1)]
theorem ww_gi_step {n : Nat} {W C X : Nat → Int32} {M r t : Nat} {dn dn' : Nat → Nat → Prop} (h : ww_gi n W C X M dn) (hr : r < n) (ht : t < n) (hd : ∀ x y, x < n → y < n → dn' x y → dn x y ∨ (x = r ∧ y = t)) : ww_gi n W C X (ww_m2 n W C X M r t) dn' := by
  unfold ww_m2
  by_cases c : ww_D n W C X t r < 9999 ∧ M < ww_D n W C X t r
  · rw [if_pos c]
    refine ⟨by omega, fun x y hx hy hd2 hl => ?_, Or.inr ⟨r, t, hr, ht, c.1, rfl⟩⟩
    rcases hd x y hx hy hd2 with z | ⟨rfl, rfl⟩
    · have := h.2.1 x y hx hy z hl
      omega
    · exact Nat.le_refl _
  · rw [if_neg c]
    refine ⟨h.1, fun x y hx hy hd2 hl => ?_, h.2.2⟩
    rcases hd x y hx hy hd2 with z | ⟨rfl, rfl⟩
    · exact h.2.1 x y hx hy z hl
    · omega
theorem ww_gi_mono {n : Nat} {W C X : Nat → Int32} {M : Nat} {dn dn' : Nat → Nat → Prop} (h : ww_gi n W C X M dn) (hd : ∀ x y, x < n → y < n → dn' x y → dn x y) : ww_gi n W C X M dn' := ⟨h.1, fun x y hx hy z => h.2.1 x y hx hy (hd x y hx hy z), h.2.2⟩
theorem ww_gi_end {n : Nat} {W C X : Nat → Int32} {M : Nat} {dn : Nat → Nat → Prop} (h : ww_gi n W C X M dn) (hd : ∀ x y, x < n → y < n → dn x y) : ww_gr n W C X M := ⟨fun x y hx hy => h.2.1 x y hx hy (hd x y hx hy), h.2.2⟩
theorem ww_not_lt {x y : Int32} : ¬ x < y ↔ y ≤ x := by
  rw [Int32.lt_iff_toInt_lt, Int32.le_iff_toInt_le]
  omega
theorem ww_not_le {x y : Int32} : ¬ x ≤ y ↔ y < x := by
  rw [Int32.lt_iff_toInt_lt, Int32.le_iff_toInt_le]
  omega
theorem ww_rc_1 (f : Nat → Int32) {t : Nat} (h : ¬ f t = -1) : nI (ww_rc f t + 1) = nI (ww_rc f (t + 1)) := by
  show _ = nI (ww_rc f t + (if f t = -1 then 0 else 1))
  rw [if_neg h]
theorem ww_rc_0 (f : Nat → Int32) {t : Nat} (h : f t = -1) : nI (ww_rc f t + 0) = nI (ww_rc f (t + 1)) := by
  show _ = nI (ww_rc f t + (if f t = -1 then 0 else 1))
  rw [if_pos h]
theorem ww_cw_1 (f : Nat → Int32) {t : Nat} (h : ¬ f t = -1) : nI (ww_cw f t + 1) = nI (ww_cw f (t + 1)) := by
  show _ = nI (ww_cw f t + (if f t = -1 then 0 else 1))
  rw [if_neg h]
theorem ww_cw_0 (f : Nat → Int32) {t : Nat} (h : f t = -1) : nI (ww_cw f t + 0) = nI (ww_cw f (t + 1)) := by
  show _ = nI (ww_cw f t + (if f t = -1 then 0 else 1))
  rw [if_pos h]
theorem ww_cc_1 (f : Nat → Int32) {t : Nat} (h : ¬ f t = 0) : nI (ww_cc f t + 1) = nI (ww_cc f (t + 1)) := by
  show _ = nI (ww_cc f t + (if f t = 0 then 0 else 1))
  rw [if_neg h]
theorem ww_cc_0 (f : Nat → Int32) {t : Nat} (h : f t = 0) : nI (ww_cc f t + 0) = nI (ww_cc f (t + 1)) := by
  show _ = nI (ww_cc f t + (if f t = 0 then 0 else 1))
  rw [if_pos h]
end
section
/-! what is asked of the class -/
/-- count's answer -/
def ww_cnt (n : Nat) (W C X : Nat → Int32) (pl cu k v : Int32) : Prop := (k = nI 0 → v = nI n) ∧ (k = nI 1 → v = pl) ∧ (k = nI 2 → v = cu) ∧ (k = nI 3 → ∃ M, v = nI M ∧ ww_gr n W C X M) ∧ (¬ k = nI 0 → ¬ k = nI 1 → ¬ k = nI 2 → ¬ k = nI 3 → v = -1)
theorem ww_cnt_out {n : Nat} {W C X : Nat → Int32} {pl cu k : Int32} (h0 : ¬ k = nI 0) (h1 : ¬ k = nI 1) (h2 : ¬ k = nI 2) (h3 : ¬ k = nI 3) : ww_cnt n W C X pl cu k (-1) := ⟨fun z => absurd z h0, fun z => absurd z h1, fun z => absurd z h2, fun z => absurd z h3, fun _ _ _ _ => rfl⟩
theorem ww_cnt_0 {n : Nat} {W C X : Nat → Int32} {pl cu v : Int32} (h : v = nI n) : ww_cnt n W C X pl cu (nI 0) v := ⟨fun _ => h, fun z => absurd z (by decide), fun z => absurd z (by decide), fun z => absurd z (by decide), fun z => absurd rfl z⟩
theorem ww_cnt_1 {n : Nat} {W C X : Nat → Int32} {pl cu v : Int32} (h : v = pl) : ww_cnt n W C X pl cu (nI 1) v := ⟨fun z => absurd z (by decide), fun _ => h, fun z => absurd z (by decide), fun z => absurd z (by decide), fun _ z => absurd rfl z⟩
theorem ww_cnt_2 {n : Nat} {W C X : Nat → Int32} {pl cu v : Int32} (h : v = cu) : ww_cnt n W C X pl cu (nI 2) v := ⟨fun z => absurd z (by decide), fun z => absurd z (by decide), fun _ => h, fun z => absurd z (by decide), fun _ _ z => absurd rfl z⟩
theorem ww_cnt_3 {n : Nat} {W C X : Nat → Int32} {pl cu v : Int32} (h : ∃ M, v = nI M ∧ ww_gr n W C X M) : ww_cnt n W C X pl cu (nI 3) v := ⟨fun z => absurd z (by decide), fun z => absurd z (by decide), fun z => absurd z (by decide), fun _ => h, fun _ _ _ z => absurd rfl z⟩
set_option maxHeartbeats 4000000 in
set_option maxRecDepth 100000 in
theorem metX1_spot (l : Launch) (D : va_G) (a : Nat → Nat) (d : Nat → ClassId) (n : Nat) (fW fC fP fX fF fY : Nat → Int32) (ol pl cu : Int32) (sz : Nat) (r ov t : Int32) (hI : ww_inv n fW fC fP fX fF fY ol) : Met l yX1_spot (ws_ yX1_spot cX1_spot 5 (some .int)) ({ frames := 3, cells := 0, slots := 0, locals := 75 }) (va_Pc [.ref (a 0), .int r, .int ov, .int t] (ww_C D (ww_tX d) (ww_X a d n fW fC fP fX fF fY ol pl cu) sz)) (va_Qi (fun (v : Int32) (u : (Nat → Int32) × (Nat → Int32) × Int32) => ww_inv n fW fC fP fX u.1 u.2.1 u.2.2 ∧ (ww_ok n r ov t → v = nI (26 * r.toNatClampNeg + ww_aim ov t) ∧ u.2.2 = nI 0) ∧ (¬ ww_ok n r ov t → v = -1)) (fun (u : (Nat → Int32) × (Nat → Int32) × Int32) t => va_P D ww_cl (ww_X a d n fW fC fP fX u.1 u.2.1 u.2.2 pl cu) t.heap) (va_A (ww_X a d n fW fC fP fX fF fY ol pl cu) sz)) 0 0 (va_A (ww_X a d n fW fC fP fX fF fY ol pl cu) sz) := by
  refine Met.ofW (cc := cX1_spot) (maxL := 5) (ret := (some .int)) (by decide) rfl ?_
  intro pr e s m args below meth c s₁ B hml hv
  obtain ⟨rfl, hsz, hP, hK, hD0⟩ := hv
  have hx := B.exec
  have hb := B.bytes
  have hret := B.returns
  have hts := atoms_spec (ws := (ws_ yX1_spot cX1_spot 5 (some .int))) B.pre
  have hts : ∀ w ∈ lw_all, w.before _ s = true := fun w h => hts w (List.mem_cons_of_mem _ h)
  have hown : s.vm.findClass RX1 = some m.cls := findClass_of_methodNamed B.named
  have hlocks := B.notSynchronized
  subst hsz
  have hD := hD0.self (sz := s.heap.size)
  generalize hAe : va_A (ww_X a d n fW fC fP fX fF fY ol pl cu) s.heap.size = A at hD ⊢
  have hA : ∀ q : Nat, s.heap.size ≤ q → A q := fun q h => by rw [← hAe]; exact Or.inr h
  have hS : va_S A s.heap s.heap [] := va_S.rf
  have hP : va_P D ww_cl (ww_X a d n fW fC fP fX fF fY ol pl cu) s.heap := hP
  have hl := lv_entry ([.ref (a 0), .int r, .int ov, .int t]) (n := 5) (Nat.le_of_ble_eq_true rfl)
  rw [lg_entry_eq]
  generalize (lg_sl ([.ref (a 0), .int r, .int ov, .int t]) ++ List.replicate (5 - (lg_sl ([.ref (a 0), .int r, .int ov, .int t])).length) Slot.unset).toArray = ls at hl ⊢
  have hl : lv_has ls 5 [(0, .ref (a 0)), (1, .int r), (2, .int ov), (3, .int t)] := hl
  obtain ⟨hn0, hn, hN, hpin, hol, htab⟩ := id hI
  refine lv_iload_n hx hb dX1_spot_0 rfl (lv_at hl 2 rfl) ?_
  refine lv_if_eq (tgt := 9) hx hb dX1_spot_1 (by decide) (fun c_1 => ?_) (fun c_1 => ?_)
  · refine lv_aload_n hx hb dX1_spot_9 rfl (lv_at hl 0 rfl) ?_
    refine ww_gX 0 q36 rfl hx hb hts hown hK hP dX1_spot_10 ?_
    refine lv_istore (lv' := [(4, .int (nI n)), (0, .ref (a 0)), (1, .int r), (2, .int ov), (3, .int t)]) hx hb dX1_spot_13 hl (by decide) rfl (fun ls hl => ?_)
    refine lv_iload_n hx hb dX1_spot_15 rfl (lv_at hl 2 rfl) ?_
    refine lv_if_lt (tgt := 37) hx hb dX1_spot_16 (by decide) (fun c_16 => ?_) (fun c_16 => ?_)
    · refine lv_iconst (v := -1) hx hb dX1_spot_37 (by decide) ?_
      exact W.iret hx hb hret (fun t9 ht9 hW9 => ⟨⟨_, (fF, fY, ol), rfl, ⟨hI, fun z => (show False from z.1.1 c_16).elim, fun _ => rfl⟩, by show va_P _ _ _ t9.heap; rw [ht9]; exact hP⟩, hS.F ht9⟩) hS.2.2 dX1_spot_38
    · refine lv_iload_n hx hb dX1_spot_19 rfl (lv_at hl 2 rfl) ?_
      refine lv_aload_n hx hb dX1_spot_20 rfl (lv_at hl 1 rfl) ?_
      refine ww_gX 0 q36 rfl hx hb hts hown hK hP dX1_spot_21 ?_
      refine lv_icmp_ge (tgt := 37) hx hb dX1_spot_24 (by decide) (fun c_24 => ?_) (fun c_24 => ?_)
      · refine lv_iconst (v := -1) hx hb dX1_spot_37 (by decide) ?_
        exact W.iret hx hb hret (fun t9 ht9 hW9 => ⟨⟨_, (fF, fY, ol), rfl, ⟨hI, fun z => (show False from z.1.2 c_24).elim, fun _ => rfl⟩, by show va_P _ _ _ t9.heap; rw [ht9]; exact hP⟩, hS.F ht9⟩) hS.2.2 dX1_spot_38
      · refine lv_iload_n hx hb dX1_spot_27 rfl (lv_at hl 4 rfl) ?_
        refine lv_if_lt (tgt := 37) hx hb dX1_spot_28 (by decide) (fun c_28 => ?_) (fun c_28 => ?_)
        · refine lv_iconst (v := -1) hx hb dX1_spot_37 (by decide) ?_
          exact W.iret hx hb hret (fun t9 ht9 hW9 => ⟨⟨_, (fF, fY, ol), rfl, ⟨hI, fun z => (show False from z.2.1 c_28).elim, fun _ => rfl⟩, by show va_P _ _ _ t9.heap; rw [ht9]; exact hP⟩, hS.F ht9⟩) hS.2.2 dX1_spot_38
        · refine lv_iload_n hx hb dX1_spot_31 rfl (lv_at hl 4 rfl) ?_
          refine lv_iload hx hb dX1_spot_32 (lv_at hl 0 rfl) ?_
          refine lv_icmp_lt (tgt := 39) hx hb dX1_spot_34 (by decide) (fun c_34 => ?_) (fun c_34 => ?_)
          · obtain ⟨i, hi, rfl⟩ := ww_rng (by omega) c_16 c_24
            obtain ⟨j, hj, rfl⟩ := ww_rng (by omega) c_28 (ww_not_le.mpr c_34)
            have hok : ww_ok n (nI i) ov (nI j) := ⟨⟨c_16, c_24⟩, c_28, by rw [if_pos c_1]; exact ww_not_le.mpr c_34⟩
            refine lv_aload_n hx hb dX1_spot_39 rfl (lv_at hl 1 rfl) ?_
            refine ww_rv (As := []) (rest := []) ⟨hx, hb, hml, hown, hts⟩ hK hP hD hS hA (metX1_reckon l D a d n fW fC fP fX fF fY ol pl cu _ hI) rfl rfl (cwV 0 hts (lw_V q105 q107 qs3 q19 q108) rfl rfl rfl (by decide +kernel) ⟨Nat.le_of_ble_eq_true rfl, Nat.le_of_ble_eq_true rfl⟩) rfl rfl (Nat.le_of_ble_eq_true rfl) hl.1 ⟨Nat.zero_le _, Nat.zero_le _⟩ dX1_spot_40 (fun u_40 H locs h_40 hP hk_40 hS => ?_)
            have hP : va_P D ww_cl (ww_X a d n fW fC fP fX u_40.1 u_40.2.1 u_40.2.2 pl cu) H := hP
            have hD : va_D A (ww_X a d n fW fC fP fX u_40.1 u_40.2.1 u_40.2.2 pl cu) := ww_Dad hD rfl
            refine lv_iload_n hx hb dX1_spot_43 rfl (lv_at hl 2 rfl) ?_
            refine lv_bipush (v := nI 26) hx hb dX1_spot_44 (by decide) ?_
            refine ww_imulc hx hb dX1_spot_46 ?_
            refine lv_iload_n hx hb dX1_spot_47 rfl (lv_at hl 3 rfl) ?_
            refine lv_if_eq (tgt := 58) hx hb dX1_spot_48 (by decide) (fun c_48 => ?_) (fun c_48 => ?_)
            · refine lv_iload_n hx hb dX1_spot_58 rfl (lv_at hl 4 rfl) ?_
              refine ww_iadd hx hb dX1_spot_59 ?_
              exact W.iret hx hb hret (fun t9 ht9 hW9 => ⟨⟨_, u_40, rfl, ⟨⟨hn0, hn, hN, hpin, Or.inl h_40.1, fun _ => h_40.2⟩, fun _ => ⟨by unfold ww_aim; rw [if_pos c_1, nI_clamp (by omega), nI_clamp (by omega)], h_40.1⟩, fun z => absurd hok z⟩, by show va_P _ _ _ t9.heap; rw [ht9]; exact hP⟩, hS.F ht9⟩) hS.2.2 dX1_spot_60
            · exact absurd c_1 c_48
          · refine lv_iconst (v := -1) hx hb dX1_spot_37 (by decide) ?_
            exact W.iret hx hb hret (fun t9 ht9 hW9 => ⟨⟨_, (fF, fY, ol), rfl, ⟨hI, fun z => (show False from z.2.2 (by rw [if_pos c_1]; exact ww_not_lt.mp c_34)).elim, fun _ => rfl⟩, by show va_P _ _ _ t9.heap; rw [ht9]; exact hP⟩, hS.F ht9⟩) hS.2.2 dX1_spot_38
  · refine lv_bipush (v := nI 16) hx hb dX1_spot_4 (by decide) ?_
    refine lv_goto (tgt := 13) hx hb dX1_spot_6 (by decide) ?_
    refine lv_istore (lv' := [(4, .int (nI 16)), (0, .ref (a 0)), (1, .int r), (2, .int ov), (3, .int t)]) hx hb dX1_spot_13 hl (by decide) rfl (fun ls hl => ?_)
    refine lv_iload_n hx hb dX1_spot_15 rfl (lv_at hl 2 rfl) ?_
    refine lv_if_lt (tgt := 37) hx hb dX1_spot_16 (by decide) (fun c_16 => ?_) (fun c_16 => ?_)
    · refine lv_iconst (v := -1) hx hb dX1_spot_37 (by decide) ?_
      exact W.iret hx hb hret (fun t9 ht9 hW9 => ⟨⟨_, (fF, fY, ol), rfl, ⟨hI, fun z => (show False from z.1.1 c_16).elim, fun _ => rfl⟩, by show va_P _ _ _ t9.heap; rw [ht9]; exact hP⟩, hS.F ht9⟩) hS.2.2 dX1_spot_38
    · refine lv_iload_n hx hb dX1_spot_19 rfl (lv_at hl 2 rfl) ?_
      refine lv_aload_n hx hb dX1_spot_20 rfl (lv_at hl 1 rfl) ?_
      refine ww_gX 0 q36 rfl hx hb hts hown hK hP dX1_spot_21 ?_
      refine lv_icmp_ge (tgt := 37) hx hb dX1_spot_24 (by decide) (fun c_24 => ?_) (fun c_24 => ?_)
      · refine lv_iconst (v := -1) hx hb dX1_spot_37 (by decide) ?_
        exact W.iret hx hb hret (fun t9 ht9 hW9 => ⟨⟨_, (fF, fY, ol), rfl, ⟨hI, fun z => (show False from z.1.2 c_24).elim, fun _ => rfl⟩, by show va_P _ _ _ t9.heap; rw [ht9]; exact hP⟩, hS.F ht9⟩) hS.2.2 dX1_spot_38
      · refine lv_iload_n hx hb dX1_spot_27 rfl (lv_at hl 4 rfl) ?_
        refine lv_if_lt (tgt := 37) hx hb dX1_spot_28 (by decide) (fun c_28 => ?_) (fun c_28 => ?_)
        · refine lv_iconst (v := -1) hx hb dX1_spot_37 (by decide) ?_
          exact W.iret hx hb hret (fun t9 ht9 hW9 => ⟨⟨_, (fF, fY, ol), rfl, ⟨hI, fun z => (show False from z.2.1 c_28).elim, fun _ => rfl⟩, by show va_P _ _ _ t9.heap; rw [ht9]; exact hP⟩, hS.F ht9⟩) hS.2.2 dX1_spot_38
        · refine lv_iload_n hx hb dX1_spot_31 rfl (lv_at hl 4 rfl) ?_
          refine lv_iload hx hb dX1_spot_32 (lv_at hl 0 rfl) ?_
          refine lv_icmp_lt (tgt := 39) hx hb dX1_spot_34 (by decide) (fun c_34 => ?_) (fun c_34 => ?_)
          · obtain ⟨i, hi, rfl⟩ := ww_rng (by omega) c_16 c_24
            obtain ⟨j, hj, rfl⟩ := ww_rng (by omega) c_28 (ww_not_le.mpr c_34)
            have hok : ww_ok n (nI i) ov (nI j) := ⟨⟨c_16, c_24⟩, c_28, by rw [if_neg c_1]; exact ww_not_le.mpr c_34⟩
            refine lv_aload_n hx hb dX1_spot_39 rfl (lv_at hl 1 rfl) ?_
            refine ww_rv (As := []) (rest := []) ⟨hx, hb, hml, hown, hts⟩ hK hP hD hS hA (metX1_reckon l D a d n fW fC fP fX fF fY ol pl cu _ hI) rfl rfl (cwV 0 hts (lw_V q105 q107 qs3 q19 q108) rfl rfl rfl (by decide +kernel) ⟨Nat.le_of_ble_eq_true rfl, Nat.le_of_ble_eq_true rfl⟩) rfl rfl (Nat.le_of_ble_eq_true rfl) hl.1 ⟨Nat.zero_le _, Nat.zero_le _⟩ dX1_spot_40 (fun u_40 H locs h_40 hP hk_40 hS => ?_)
            have hP : va_P D ww_cl (ww_X a d n fW fC fP fX u_40.1 u_40.2.1 u_40.2.2 pl cu) H := hP
            have hD : va_D A (ww_X a d n fW fC fP fX u_40.1 u_40.2.1 u_40.2.2 pl cu) := ww_Dad hD rfl
            refine lv_iload_n hx hb dX1_spot_43 rfl (lv_at hl 2 rfl) ?_
            refine lv_bipush (v := nI 26) hx hb dX1_spot_44 (by decide) ?_
            refine ww_imulc hx hb dX1_spot_46 ?_
            refine lv_iload_n hx hb dX1_spot_47 rfl (lv_at hl 3 rfl) ?_
            refine lv_if_eq (tgt := 58) hx hb dX1_spot_48 (by decide) (fun c_48 => ?_) (fun c_48 => ?_)
            · exact absurd c_48 c_1
            · refine lv_bipush (v := nI 10) hx hb dX1_spot_51 (by decide) ?_
              refine lv_iload_n hx hb dX1_spot_53 rfl (lv_at hl 4 rfl) ?_
              refine ww_iadd hx hb dX1_spot_54 ?_
              refine lv_goto (tgt := 59) hx hb dX1_spot_55 (by decide) ?_
              refine ww_iadd hx hb dX1_spot_59 ?_
              exact W.iret hx hb hret (fun t9 ht9 hW9 => ⟨⟨_, u_40, rfl, ⟨⟨hn0, hn, hN, hpin, Or.inl h_40.1, fun _ => h_40.2⟩, fun _ => ⟨by unfold ww_aim; rw [if_neg c_1, nI_clamp (by omega), nI_clamp (by omega)], h_40.1⟩, fun z => absurd hok z⟩, by show va_P _ _ _ t9.heap; rw [ht9]; exact hP⟩, hS.F ht9⟩) hS.2.2 dX1_spot_60
          · refine lv_iconst (v := -1) hx hb dX1_spot_37 (by decide) ?_
            exact W.iret hx hb hret (fun t9 ht9 hW9 => ⟨⟨_, (fF, fY, ol), rfl, ⟨hI, fun z => (show False from z.2.2 (by rw [if_neg c_1]; exact ww_not_lt.mp c_34)).elim, fun _ => rfl⟩, by show va_P _ _ _ t9.heap; rw [ht9]; exact hP⟩, hS.F ht9⟩) hS.2.2 dX1_spot_38
set_option maxHeartbeats 4000000 in
set_option maxRecDepth 100000 in
theorem metX1_far (l : Launch) (D : va_G) (a : Nat → Nat) (d : Nat → ClassId) (n : Nat) (fW fC fP fX fF fY : Nat → Int32) (ol pl cu : Int32) (sz : Nat) (r ov t : Int32) (hI : ww_inv n fW fC fP fX fF fY ol) : Met l yX1_far (ws_ yX1_far cX1_far 5 (some .int)) ({ frames := 4, cells := 0, slots := 0, locals := 99 }) (va_Pc [.ref (a 0), .int r, .int ov, .int t] (ww_C D (ww_tX d) (ww_X a d n fW fC fP fX fF fY ol pl cu) sz)) (va_Qi (fun (v : Int32) (u : (Nat → Int32) × (Nat → Int32) × Int32) => v = ww_q n (ww_farS n fW fC fX) r ov t ∧ ww_inv n fW fC fP fX u.1 u.2.1 u.2.2) (fun (u : (Nat → Int32) × (Nat → Int32) × Int32) t => va_P D ww_cl (ww_X a d n fW fC fP fX u.1 u.2.1 u.2.2 pl cu) t.heap) (va_A (ww_X a d n fW fC fP fX fF fY ol pl cu) sz)) 0 0 (va_A (ww_X a d n fW fC fP fX fF fY ol pl cu) sz) := by
  refine Met.ofW (cc := cX1_far) (maxL := 5) (ret := (some .int)) (by decide) rfl ?_
  intro pr e s m args below meth c s₁ B hml hv
  obtain ⟨rfl, hsz, hP, hK, hD0⟩ := hv
  have hx := B.exec
  have hb := B.bytes
  have hret := B.returns
  have hts := atoms_spec (ws := (ws_ yX1_far cX1_far 5 (some .int))) B.pre
  have hts : ∀ w ∈ lw_all, w.before _ s = true := fun w h => hts w (List.mem_cons_of_mem _ h)
  have hown : s.vm.findClass RX1 = some m.cls := findClass_of_methodNamed B.named
  have hlocks := B.notSynchronized
  subst hsz
  have hD := hD0.self (sz := s.heap.size)
  generalize hAe : va_A (ww_X a d n fW fC fP fX fF fY ol pl cu) s.heap.size = A at hD ⊢
  have hA : ∀ q : Nat, s.heap.size ≤ q → A q := fun q h => by rw [← hAe]; exact Or.inr h
  have hS : va_S A s.heap s.heap [] := va_S.rf
  have hP : va_P D ww_cl (ww_X a d n fW fC fP fX fF fY ol pl cu) s.heap := hP
  have hl := lv_entry ([.ref (a 0), .int r, .int ov, .int t]) (n := 5) (Nat.le_of_ble_eq_true rfl)
  rw [lg_entry_eq]
  generalize (lg_sl ([.ref (a 0), .int r, .int ov, .int t]) ++ List.replicate (5 - (lg_sl ([.ref (a 0), .int r, .int ov, .int t])).length) Slot.unset).toArray = ls at hl ⊢
  have hl : lv_has ls 5 [(0, .ref (a 0)), (1, .int r), (2, .int ov), (3, .int t)] := hl
  have hn := hI.2.1
  have hn0 := hI.1
  refine lv_aload_n hx hb dX1_far_0 rfl (lv_at hl 0 rfl) ?_
  refine lv_iload_n hx hb dX1_far_1 rfl (lv_at hl 1 rfl) ?_
  refine lv_iload_n hx hb dX1_far_2 rfl (lv_at hl 2 rfl) ?_
  refine lv_iload_n hx hb dX1_far_3 rfl (lv_at hl 3 rfl) ?_
  refine ww_rw (As := [.int r, .int ov, .int t]) (rest := []) ⟨hx, hb, hml, hown, hts⟩ hK hP hD hS hA (metX1_spot l D a d n fW fC fP fX fF fY ol pl cu _ r ov t hI) rfl rfl (cwV 3 hts (lw_V q101 q103 qs2 q19 q104) rfl rfl rfl (by decide +kernel) ⟨Nat.le_of_ble_eq_true rfl, Nat.le_of_ble_eq_true rfl⟩) rfl rfl (Nat.le_of_ble_eq_true rfl) hl.1 ⟨Nat.zero_le _, Nat.zero_le _⟩ dX1_far_4 (fun r_4 u_4 H locs h_4 hP hk_4 hS => ?_)
  have hP : va_P D ww_cl (ww_X a d n fW fC fP fX u_4.1 u_4.2.1 u_4.2.2 pl cu) H := hP
  have hD : va_D A (ww_X a d n fW fC fP fX u_4.1 u_4.2.1 u_4.2.2 pl cu) := ww_Dad hD rfl
  by_cases hok : ww_ok n r ov t
  · obtain ⟨e1, e2⟩ := h_4.2.1 hok
    have htab := h_4.1.2.2.2.2.2 e2
    obtain ⟨b1, b2⟩ := ww_ok_nat hn hok
    subst e1
    refine lv_istore (lv' := [(4, .int (nI (26 * r.toNatClampNeg + ww_aim ov t))), (0, .ref (a 0)), (1, .int r), (2, .int ov), (3, .int t)]) hx hb dX1_far_7 hl (by decide) rfl (fun ls hl => ?_)
    refine lv_iload hx hb dX1_far_9 (lv_at hl 0 rfl) ?_
    refine lv_iconst (v := -1) hx hb dX1_far_11 (by decide) ?_
    refine lv_icmp_eq (tgt := 28) hx hb dX1_far_12 (by decide) (fun c_12 => ?_) (fun c_12 => ?_)
    · exact absurd c_12 (ww_nm1 (by omega))
    · refine lv_aload_n hx hb dX1_far_15 rfl (lv_at hl 1 rfl) ?_
      refine ww_gX 5 q41 rfl hx hb hts hown hK hP dX1_far_16 ?_
      refine lv_iload hx hb dX1_far_19 (lv_at hl 0 rfl) ?_
      refine ww_iald hx hb hK hP 5 4 rfl rfl dX1_far_21 ?_
      have hD9 := (htab.1 (ww_aim ov t) b2).1.1 r.toNatClampNeg b1
      refine ww_top (htab.2.1 _ _ b1 b2) ?_
      refine lv_sipush (v := nI 9999) hx hb dX1_far_22 (by decide) ?_
      refine ww_icmp_ne (tgt := 32) hx hb dX1_far_25 (by decide) (fun c_25 => ?_) (fun c_25 => ?_)
      · refine lv_aload_n hx hb dX1_far_32 rfl (lv_at hl 1 rfl) ?_
        refine ww_gX 5 q41 rfl hx hb hts hown hK hP dX1_far_33 ?_
        refine lv_iload hx hb dX1_far_36 (lv_at hl 0 rfl) ?_
        refine ww_iald hx hb hK hP 5 4 rfl rfl dX1_far_38 ?_
        refine ww_top (htab.2.1 _ _ b1 b2) ?_
        exact W.iret hx hb hret (fun t9 ht9 hW9 => ⟨⟨_, u_4, rfl, ⟨by rw [ww_q_ok hok, ww_far_1 c_25 hD9], h_4.1⟩, by show va_P _ _ _ t9.heap; rw [ht9]; exact hP⟩, hS.F ht9⟩) hS.2.2 dX1_far_39
      · refine lv_iconst (v := -1) hx hb dX1_far_28 (by decide) ?_
        refine lv_goto (tgt := 39) hx hb dX1_far_29 (by decide) ?_
        exact W.iret hx hb hret (fun t9 ht9 hW9 => ⟨⟨_, u_4, rfl, ⟨by rw [ww_q_ok hok, ww_far_0 c_25], h_4.1⟩, by show va_P _ _ _ t9.heap; rw [ht9]; exact hP⟩, hS.F ht9⟩) hS.2.2 dX1_far_39
  · have e1 := h_4.2.2 hok
    subst e1
    refine lv_istore (lv' := [(4, .int (-1)), (0, .ref (a 0)), (1, .int r), (2, .int ov), (3, .int t)]) hx hb dX1_far_7 hl (by decide) rfl (fun ls hl => ?_)
    refine lv_iload hx hb dX1_far_9 (lv_at hl 0 rfl) ?_
    refine lv_iconst (v := -1) hx hb dX1_far_11 (by decide) ?_
    refine lv_icmp_eq (tgt := 28) hx hb dX1_far_12 (by decide) (fun c_12 => ?_) (fun c_12 => ?_)
    · refine lv_iconst (v := -1) hx hb dX1_far_28 (by decide) ?_
      refine lv_goto (tgt := 39) hx hb dX1_far_29 (by decide) ?_
      exact W.iret hx hb hret (fun t9 ht9 hW9 => ⟨⟨_, u_4, rfl, ⟨(ww_q_no hok).symm, h_4.1⟩, by show va_P _ _ _ t9.heap; rw [ht9]; exact hP⟩, hS.F ht9⟩) hS.2.2 dX1_far_39
    · exact absurd rfl c_12
set_option maxHeartbeats 4000000 in
set_option maxRecDepth 100000 in
theorem metX1_port (l : Launch) (D : va_G) (a : Nat → Nat) (d : Nat → ClassId) (n : Nat) (fW fC fP fX fF fY : Nat → Int32) (ol pl cu : Int32) (sz : Nat) (r ov t : Int32) (hI : ww_inv n fW fC fP fX fF fY ol) : Met l yX1_port (ws_ yX1_port cX1_port 5 (some .int)) ({ frames := 4, cells := 0, slots := 0, locals := 99 }) (va_Pc [.ref (a 0), .int r, .int ov, .int t] (ww_C D (ww_tX d) (ww_X a d n fW fC fP fX fF fY ol pl cu) sz)) (va_Qi (fun (v : Int32) (u : (Nat → Int32) × (Nat → Int32) × Int32) => v = ww_q n (ww_portS n fW fC fX) r ov t ∧ ww_inv n fW fC fP fX u.1 u.2.1 u.2.2) (fun (u : (Nat → Int32) × (Nat → Int32) × Int32) t => va_P D ww_cl (ww_X a d n fW fC fP fX u.1 u.2.1 u.2.2 pl cu) t.heap) (va_A (ww_X a d n fW fC fP fX fF fY ol pl cu) sz)) 0 0 (va_A (ww_X a d n fW fC fP fX fF fY ol pl cu) sz) := by
  refine Met.ofW (cc := cX1_port) (maxL := 5) (ret := (some .int)) (by decide) rfl ?_
  intro pr e s m args below meth c s₁ B hml hv
  obtain ⟨rfl, hsz, hP, hK, hD0⟩ := hv
  have hx := B.exec
  have hb := B.bytes
  have hret := B.returns
  have hts := atoms_spec (ws := (ws_ yX1_port cX1_port 5 (some .int))) B.pre
  have hts : ∀ w ∈ lw_all, w.before _ s = true := fun w h => hts w (List.mem_cons_of_mem _ h)
  have hown : s.vm.findClass RX1 = some m.cls := findClass_of_methodNamed B.named
  have hlocks := B.notSynchronized
  subst hsz
  have hD := hD0.self (sz := s.heap.size)
  generalize hAe : va_A (ww_X a d n fW fC fP fX fF fY ol pl cu) s.heap.size = A at hD ⊢
  have hA : ∀ q : Nat, s.heap.size ≤ q → A q := fun q h => by rw [← hAe]; exact Or.inr h
  have hS : va_S A s.heap s.heap [] := va_S.rf
  have hP : va_P D ww_cl (ww_X a d n fW fC fP fX fF fY ol pl cu) s.heap := hP
  have hl := lv_entry ([.ref (a 0), .int r, .int ov, .int t]) (n := 5) (Nat.le_of_ble_eq_true rfl)
  rw [lg_entry_eq]
  generalize (lg_sl ([.ref (a 0), .int r, .int ov, .int t]) ++ List.replicate (5 - (lg_sl ([.ref (a 0), .int r, .int ov, .int t])).length) Slot.unset).toArray = ls at hl ⊢
  have hl : lv_has ls 5 [(0, .ref (a 0)), (1, .int r), (2, .int ov), (3, .int t)] := hl
  have hn := hI.2.1
  have hn0 := hI.1
  refine lv_aload_n hx hb dX1_port_0 rfl (lv_at hl 0 rfl) ?_
  refine lv_iload_n hx hb dX1_port_1 rfl (lv_at hl 1 rfl) ?_
  refine lv_iload_n hx hb dX1_port_2 rfl (lv_at hl 2 rfl) ?_
  refine lv_iload_n hx hb dX1_port_3 rfl (lv_at hl 3 rfl) ?_
  refine ww_rw (As := [.int r, .int ov, .int t]) (rest := []) ⟨hx, hb, hml, hown, hts⟩ hK hP hD hS hA (metX1_spot l D a d n fW fC fP fX fF fY ol pl cu _ r ov t hI) rfl rfl (cwV 3 hts (lw_V q101 q103 qs2 q19 q104) rfl rfl rfl (by decide +kernel) ⟨Nat.le_of_ble_eq_true rfl, Nat.le_of_ble_eq_true rfl⟩) rfl rfl (Nat.le_of_ble_eq_true rfl) hl.1 ⟨Nat.zero_le _, Nat.zero_le _⟩ dX1_port_4 (fun r_4 u_4 H locs h_4 hP hk_4 hS => ?_)
  have hP : va_P D ww_cl (ww_X a d n fW fC fP fX u_4.1 u_4.2.1 u_4.2.2 pl cu) H := hP
  have hD : va_D A (ww_X a d n fW fC fP fX u_4.1 u_4.2.1 u_4.2.2 pl cu) := ww_Dad hD rfl
  by_cases hok : ww_ok n r ov t
  · obtain ⟨e1, e2⟩ := h_4.2.1 hok
    have htab := h_4.1.2.2.2.2.2 e2
    obtain ⟨b1, b2⟩ := ww_ok_nat hn hok
    subst e1
    refine lv_istore (lv' := [(4, .int (nI (26 * r.toNatClampNeg + ww_aim ov t))), (0, .ref (a 0)), (1, .int r), (2, .int ov), (3, .int t)]) hx hb dX1_port_7 hl (by decide) rfl (fun ls hl => ?_)
    refine lv_iload hx hb dX1_port_9 (lv_at hl 0 rfl) ?_
    refine lv_iconst (v := -1) hx hb dX1_port_11 (by decide) ?_
    refine lv_icmp_eq (tgt := 26) hx hb dX1_port_12 (by decide) (fun c_12 => ?_) (fun c_12 => ?_)
    · exact absurd c_12 (ww_nm1 (by omega))
    · refine lv_aload_n hx hb dX1_port_15 rfl (lv_at hl 1 rfl) ?_
      refine ww_gX 6 q42 rfl hx hb hts hown hK hP dX1_port_16 ?_
      refine lv_iload hx hb dX1_port_19 (lv_at hl 0 rfl) ?_
      refine ww_iald hx hb hK hP 6 5 rfl rfl dX1_port_21 ?_
      refine ww_top (htab.2.2 _ _ b1 b2) ?_
      refine lv_iconst (v := -1) hx hb dX1_port_22 (by decide) ?_
      refine lv_icmp_ne (tgt := 30) hx hb dX1_port_23 (by decide) (fun c_23 => ?_) (fun c_23 => ?_)
      · refine lv_aload_n hx hb dX1_port_30 rfl (lv_at hl 1 rfl) ?_
        refine ww_gX 6 q42 rfl hx hb hts hown hK hP dX1_port_31 ?_
        refine lv_iload hx hb dX1_port_34 (lv_at hl 0 rfl) ?_
        refine ww_iald hx hb hK hP 6 5 rfl rfl dX1_port_36 ?_
        refine ww_top (htab.2.2 _ _ b1 b2) ?_
        refine lv_iconst (v := nI 4) hx hb dX1_port_37 (by decide) ?_
        refine lv_ishr hx hb dX1_port_38 ?_
        exact W.iret hx hb hret (fun t9 ht9 hW9 => ⟨⟨_, u_4, rfl, ⟨by rw [ww_q_ok hok, ← ww_port_1 hn0 hn c_23], h_4.1⟩, by show va_P _ _ _ t9.heap; rw [ht9]; exact hP⟩, hS.F ht9⟩) hS.2.2 dX1_port_39
      · refine lv_iconst (v := -1) hx hb dX1_port_26 (by decide) ?_
        refine lv_goto (tgt := 39) hx hb dX1_port_27 (by decide) ?_
        exact W.iret hx hb hret (fun t9 ht9 hW9 => ⟨⟨_, u_4, rfl, ⟨by rw [ww_q_ok hok, ww_port_0 hn0 hn c_23], h_4.1⟩, by show va_P _ _ _ t9.heap; rw [ht9]; exact hP⟩, hS.F ht9⟩) hS.2.2 dX1_port_39
  · have e1 := h_4.2.2 hok
    subst e1
    refine lv_istore (lv' := [(4, .int (-1)), (0, .ref (a 0)), (1, .int r), (2, .int ov), (3, .int t)]) hx hb dX1_port_7 hl (by decide) rfl (fun ls hl => ?_)
    refine lv_iload hx hb dX1_port_9 (lv_at hl 0 rfl) ?_
    refine lv_iconst (v := -1) hx hb dX1_port_11 (by decide) ?_
    refine lv_icmp_eq (tgt := 26) hx hb dX1_port_12 (by decide) (fun c_12 => ?_) (fun c_12 => ?_)
    · refine lv_iconst (v := -1) hx hb dX1_port_26 (by decide) ?_
      refine lv_goto (tgt := 39) hx hb dX1_port_27 (by decide) ?_
      exact W.iret hx hb hret (fun t9 ht9 hW9 => ⟨⟨_, u_4, rfl, ⟨(ww_q_no hok).symm, h_4.1⟩, by show va_P _ _ _ t9.heap; rw [ht9]; exact hP⟩, hS.F ht9⟩) hS.2.2 dX1_port_39
    · exact absurd rfl c_12
set_option maxHeartbeats 4000000 in
set_option maxRecDepth 100000 in
theorem metX1_next (l : Launch) (D : va_G) (a : Nat → Nat) (d : Nat → ClassId) (n : Nat) (fW fC fP fX fF fY : Nat → Int32) (ol pl cu : Int32) (sz : Nat) (r ov t : Int32) (hI : ww_inv n fW fC fP fX fF fY ol) : Met l yX1_next (ws_ yX1_next cX1_next 5 (some .int)) ({ frames := 4, cells := 0, slots := 0, locals := 99 }) (va_Pc [.ref (a 0), .int r, .int ov, .int t] (ww_C D (ww_tX d) (ww_X a d n fW fC fP fX fF fY ol pl cu) sz)) (va_Qi (fun (v : Int32) (u : (Nat → Int32) × (Nat → Int32) × Int32) => v = ww_q n (ww_nextS n fW fC fX) r ov t ∧ ww_inv n fW fC fP fX u.1 u.2.1 u.2.2) (fun (u : (Nat → Int32) × (Nat → Int32) × Int32) t => va_P D ww_cl (ww_X a d n fW fC fP fX u.1 u.2.1 u.2.2 pl cu) t.heap) (va_A (ww_X a d n fW fC fP fX fF fY ol pl cu) sz)) 0 0 (va_A (ww_X a d n fW fC fP fX fF fY ol pl cu) sz) := by
  refine Met.ofW (cc := cX1_next) (maxL := 5) (ret := (some .int)) (by decide) rfl ?_
  intro pr e s m args below meth c s₁ B hml hv
  obtain ⟨rfl, hsz, hP, hK, hD0⟩ := hv
  have hx := B.exec
  have hb := B.bytes
  have hret := B.returns
  have hts := atoms_spec (ws := (ws_ yX1_next cX1_next 5 (some .int))) B.pre
  have hts : ∀ w ∈ lw_all, w.before _ s = true := fun w h => hts w (List.mem_cons_of_mem _ h)
  have hown : s.vm.findClass RX1 = some m.cls := findClass_of_methodNamed B.named
  have hlocks := B.notSynchronized
  subst hsz
  have hD := hD0.self (sz := s.heap.size)
  generalize hAe : va_A (ww_X a d n fW fC fP fX fF fY ol pl cu) s.heap.size = A at hD ⊢
  have hA : ∀ q : Nat, s.heap.size ≤ q → A q := fun q h => by rw [← hAe]; exact Or.inr h
  have hS : va_S A s.heap s.heap [] := va_S.rf
  have hP : va_P D ww_cl (ww_X a d n fW fC fP fX fF fY ol pl cu) s.heap := hP
  have hl := lv_entry ([.ref (a 0), .int r, .int ov, .int t]) (n := 5) (Nat.le_of_ble_eq_true rfl)
  rw [lg_entry_eq]
  generalize (lg_sl ([.ref (a 0), .int r, .int ov, .int t]) ++ List.replicate (5 - (lg_sl ([.ref (a 0), .int r, .int ov, .int t])).length) Slot.unset).toArray = ls at hl ⊢
  have hl : lv_has ls 5 [(0, .ref (a 0)), (1, .int r), (2, .int ov), (3, .int t)] := hl
  have hn := hI.2.1
  have hn0 := hI.1
  refine lv_aload_n hx hb dX1_next_0 rfl (lv_at hl 0 rfl) ?_
  refine lv_iload_n hx hb dX1_next_1 rfl (lv_at hl 1 rfl) ?_
  refine lv_iload_n hx hb dX1_next_2 rfl (lv_at hl 2 rfl) ?_
  refine lv_iload_n hx hb dX1_next_3 rfl (lv_at hl 3 rfl) ?_
  refine ww_rw (As := [.int r, .int ov, .int t]) (rest := []) ⟨hx, hb, hml, hown, hts⟩ hK hP hD hS hA (metX1_spot l D a d n fW fC fP fX fF fY ol pl cu _ r ov t hI) rfl rfl (cwV 3 hts (lw_V q101 q103 qs2 q19 q104) rfl rfl rfl (by decide +kernel) ⟨Nat.le_of_ble_eq_true rfl, Nat.le_of_ble_eq_true rfl⟩) rfl rfl (Nat.le_of_ble_eq_true rfl) hl.1 ⟨Nat.zero_le _, Nat.zero_le _⟩ dX1_next_4 (fun r_4 u_4 H locs h_4 hP hk_4 hS => ?_)
  have hP : va_P D ww_cl (ww_X a d n fW fC fP fX u_4.1 u_4.2.1 u_4.2.2 pl cu) H := hP
  have hD : va_D A (ww_X a d n fW fC fP fX u_4.1 u_4.2.1 u_4.2.2 pl cu) := ww_Dad hD rfl
  by_cases hok : ww_ok n r ov t
  · obtain ⟨e1, e2⟩ := h_4.2.1 hok
    have htab := h_4.1.2.2.2.2.2 e2
    obtain ⟨b1, b2⟩ := ww_ok_nat hn hok
    subst e1
    refine lv_istore (lv' := [(4, .int (nI (26 * r.toNatClampNeg + ww_aim ov t))), (0, .ref (a 0)), (1, .int r), (2, .int ov), (3, .int t)]) hx hb dX1_next_7 hl (by decide) rfl (fun ls hl => ?_)
    refine lv_iload hx hb dX1_next_9 (lv_at hl 0 rfl) ?_
    refine lv_iconst (v := -1) hx hb dX1_next_11 (by decide) ?_
    refine lv_icmp_eq (tgt := 41) hx hb dX1_next_12 (by decide) (fun c_12 => ?_) (fun c_12 => ?_)
    · exact absurd c_12 (ww_nm1 (by omega))
    · refine lv_aload_n hx hb dX1_next_15 rfl (lv_at hl 1 rfl) ?_
      refine ww_gX 6 q42 rfl hx hb hts hown hK hP dX1_next_16 ?_
      refine lv_iload hx hb dX1_next_19 (lv_at hl 0 rfl) ?_
      refine ww_iald hx hb hK hP 6 5 rfl rfl dX1_next_21 ?_
      refine ww_top (htab.2.2 _ _ b1 b2) ?_
      refine lv_iconst (v := -1) hx hb dX1_next_22 (by decide) ?_
      refine lv_icmp_eq (tgt := 41) hx hb dX1_next_23 (by decide) (fun c_23 => ?_) (fun c_23 => ?_)
      · refine lv_iconst (v := -1) hx hb dX1_next_41 (by decide) ?_
        refine lv_goto (tgt := 55) hx hb dX1_next_42 (by decide) ?_
        exact W.iret hx hb hret (fun t9 ht9 hW9 => ⟨⟨_, u_4, rfl, ⟨by rw [ww_q_ok hok, ww_next_0 hn0 hn (Or.inl c_23)], h_4.1⟩, by show va_P _ _ _ t9.heap; rw [ht9]; exact hP⟩, hS.F ht9⟩) hS.2.2 dX1_next_55
      · refine lv_aload_n hx hb dX1_next_26 rfl (lv_at hl 1 rfl) ?_
        refine ww_gX 6 q42 rfl hx hb hts hown hK hP dX1_next_27 ?_
        refine lv_iload hx hb dX1_next_30 (lv_at hl 0 rfl) ?_
        refine ww_iald hx hb hK hP 6 5 rfl rfl dX1_next_32 ?_
        refine ww_top (htab.2.2 _ _ b1 b2) ?_
        refine lv_bipush (v := nI 15) hx hb dX1_next_33 (by decide) ?_
        refine lv_iand hx hb dX1_next_35 ?_
        refine lv_bipush (v := nI 15) hx hb dX1_next_36 (by decide) ?_
        refine lv_icmp_ne (tgt := 45) hx hb dX1_next_38 (by decide) (fun c_38 => ?_) (fun c_38 => ?_)
        · refine lv_aload_n hx hb dX1_next_45 rfl (lv_at hl 1 rfl) ?_
          refine ww_gX 6 q42 rfl hx hb hts hown hK hP dX1_next_46 ?_
          refine lv_iload hx hb dX1_next_49 (lv_at hl 0 rfl) ?_
          refine ww_iald hx hb hK hP 6 5 rfl rfl dX1_next_51 ?_
          refine ww_top (htab.2.2 _ _ b1 b2) ?_
          refine lv_bipush (v := nI 15) hx hb dX1_next_52 (by decide) ?_
          refine lv_iand hx hb dX1_next_54 ?_
          exact W.iret hx hb hret (fun t9 ht9 hW9 => ⟨⟨_, u_4, rfl, ⟨by rw [ww_q_ok hok, ← ww_next_1 hn0 hn c_23 c_38], h_4.1⟩, by show va_P _ _ _ t9.heap; rw [ht9]; exact hP⟩, hS.F ht9⟩) hS.2.2 dX1_next_55
        · refine lv_iconst (v := -1) hx hb dX1_next_41 (by decide) ?_
          refine lv_goto (tgt := 55) hx hb dX1_next_42 (by decide) ?_
          exact W.iret hx hb hret (fun t9 ht9 hW9 => ⟨⟨_, u_4, rfl, ⟨by rw [ww_q_ok hok, ww_next_0 hn0 hn (Or.inr c_38)], h_4.1⟩, by show va_P _ _ _ t9.heap; rw [ht9]; exact hP⟩, hS.F ht9⟩) hS.2.2 dX1_next_55
  · have e1 := h_4.2.2 hok
    subst e1
    refine lv_istore (lv' := [(4, .int (-1)), (0, .ref (a 0)), (1, .int r), (2, .int ov), (3, .int t)]) hx hb dX1_next_7 hl (by decide) rfl (fun ls hl => ?_)
    refine lv_iload hx hb dX1_next_9 (lv_at hl 0 rfl) ?_
    refine lv_iconst (v := -1) hx hb dX1_next_11 (by decide) ?_
    refine lv_icmp_eq (tgt := 41) hx hb dX1_next_12 (by decide) (fun c_12 => ?_) (fun c_12 => ?_)
    · refine lv_iconst (v := -1) hx hb dX1_next_41 (by decide) ?_
      refine lv_goto (tgt := 55) hx hb dX1_next_42 (by decide) ?_
      exact W.iret hx hb hret (fun t9 ht9 hW9 => ⟨⟨_, u_4, rfl, ⟨(ww_q_no hok).symm, h_4.1⟩, by show va_P _ _ _ t9.heap; rw [ht9]; exact hP⟩, hS.F ht9⟩) hS.2.2 dX1_next_55
    · exact absurd rfl c_12
set_option maxHeartbeats 4000000 in
set_option maxRecDepth 100000 in
theorem metX1_walk (l : Launch) (D : va_G) (a : Nat → Nat) (d : Nat → ClassId) (n : Nat) (fW fC fP fX fF fY : Nat → Int32) (ol pl cu : Int32) (sz : Nat) (r ov t k : Int32) (hI : ww_inv n fW fC fP fX fF fY ol) : Met l yX1_walk (ws_ yX1_walk cX1_walk 7 (some .int)) ({ frames := 5, cells := 0, slots := 0, locals := 123 }) (va_Pc [.ref (a 0), .int r, .int ov, .int t, .int k] (ww_C D (ww_tX d) (ww_X a d n fW fC fP fX fF fY ol pl cu) sz)) (va_Qi (fun (v : Int32) (u : (Nat → Int32) × (Nat → Int32) × Int32) => v = ww_walkS n fW fC fX r ov t k ∧ ww_inv n fW fC fP fX u.1 u.2.1 u.2.2) (fun (u : (Nat → Int32) × (Nat → Int32) × Int32) t => va_P D ww_cl (ww_X a d n fW fC fP fX u.1 u.2.1 u.2.2 pl cu) t.heap) (va_A (ww_X a d n fW fC fP fX fF fY ol pl cu) sz)) 0 0 (va_A (ww_X a d n fW fC fP fX fF fY ol pl cu) sz) := by
  refine Met.ofW (cc := cX1_walk) (maxL := 7) (ret := (some .int)) (by decide) rfl ?_
  intro pr e s m args below meth c s₁ B hml hv
  obtain ⟨rfl, hsz, hP, hK, hD0⟩ := hv
  have hx := B.exec
  have hb := B.bytes
  have hret := B.returns
  have hts := atoms_spec (ws := (ws_ yX1_walk cX1_walk 7 (some .int))) B.pre
  have hts : ∀ w ∈ lw_all, w.before _ s = true := fun w h => hts w (List.mem_cons_of_mem _ h)
  have hown : s.vm.findClass RX1 = some m.cls := findClass_of_methodNamed B.named
  have hlocks := B.notSynchronized
  subst hsz
  have hD := hD0.self (sz := s.heap.size)
  generalize hAe : va_A (ww_X a d n fW fC fP fX fF fY ol pl cu) s.heap.size = A at hD ⊢
  have hA : ∀ q : Nat, s.heap.size ≤ q → A q := fun q h => by rw [← hAe]; exact Or.inr h
  have hS : va_S A s.heap s.heap [] := va_S.rf
  have hP : va_P D ww_cl (ww_X a d n fW fC fP fX fF fY ol pl cu) s.heap := hP
  have hl := lv_entry ([.ref (a 0), .int r, .int ov, .int t, .int k]) (n := 7) (Nat.le_of_ble_eq_true rfl)
  rw [lg_entry_eq]
  generalize (lg_sl ([.ref (a 0), .int r, .int ov, .int t, .int k]) ++ List.replicate (7 - (lg_sl ([.ref (a 0), .int r, .int ov, .int t, .int k])).length) Slot.unset).toArray = ls at hl ⊢
  have hl : lv_has ls 7 [(0, .ref (a 0)), (1, .int r), (2, .int ov), (3, .int t), (4, .int k)] := hl
  have loop : ∀ (kk : Nat), kk < 2 ^ 31 → k = nI kk → ww_walkS n fW fC fX r ov t k = ww_wk (fun x => ww_q n (ww_nextS n fW fC fX) x ov t) kk r → ∀ (j i : Nat), i ≤ kk → kk + 1 ≤ i + j → ∀ (x : Int32) (F Y : Nat → Int32) (o : Int32), ww_wk (fun x => ww_q n (ww_nextS n fW fC fX) x ov t) (kk - i) x = ww_wk (fun x => ww_q n (ww_nextS n fW fC fX) x ov t) kk r → ww_inv n fW fC fP fX F Y o → ∀ (H : Heap) (locs : List Loc), va_P D ww_cl (ww_X a d n fW fC fP fX F Y o pl cu) H → va_D A (ww_X a d n fW fC fP fX F Y o pl cu) → va_S A s.heap H locs → ∀ (ls : Array Slot), lv_has ls 7 [(0, .ref (a 0)), (2, .int ov), (3, .int t), (4, .int (nI kk)), (5, .int x), (6, .int (nI i))] → W pr l e (headSpec (ws_ yX1_walk cX1_walk 7 (some .int)) ({ frames := 5, cells := 0, slots := 0, locals := 123 })).room s m ([.ref (a 0), .int r, .int ov, .int t, .int k] : List Value).toArray below meth c H locs 0 0 (MQ below (va_Qi (fun (v : Int32) (u : (Nat → Int32) × (Nat → Int32) × Int32) => v = ww_walkS n fW fC fX r ov t k ∧ ww_inv n fW fC fP fX u.1 u.2.1 u.2.2) (fun (u : (Nat → Int32) × (Nat → Int32) × Int32) t => va_P D ww_cl (ww_X a d n fW fC fP fX u.1 u.2.1 u.2.2 pl cu) t.heap) A) ([.ref (a 0), .int r, .int ov, .int t, .int k] : List Value).toArray s 0 0 A) (F0 m 24 ls []) := by
    intro kk hkk ek hsp j
    induction j with
    | zero => intro i h1 h2; exact absurd h2 (by omega)
    | succ j ih =>
      intro i h1 h2 x F Y o hx9 hI H locs hP hD hS ls hl
      refine lv_iload hx hb dX1_walk_24 (lv_at hl 5 rfl) ?_
      refine lv_iload hx hb dX1_walk_26 (lv_at hl 3 rfl) ?_
      refine ww_icmp_ge (tgt := 53) hx hb dX1_walk_28 (by decide) (fun c_28 => ?_) (fun c_28 => ?_)
      · refine lv_iload hx hb dX1_walk_53 (lv_at hl 4 rfl) ?_
        exact W.iret hx hb hret (fun t9 ht9 hW9 => ⟨⟨_, (F, Y, o), rfl, ⟨by rw [hsp, ← hx9, show kk - i = 0 by omega]; rfl, hI⟩, by show va_P _ _ _ t9.heap; rw [ht9]; exact hP⟩, hS.F ht9⟩) hS.2.2 dX1_walk_55
      · refine lv_iload hx hb dX1_walk_31 (lv_at hl 4 rfl) ?_
        refine lv_iconst (v := -1) hx hb dX1_walk_33 (by decide) ?_
        refine lv_icmp_eq (tgt := 53) hx hb dX1_walk_34 (by decide) (fun c_34 => ?_) (fun c_34 => ?_)
        · refine lv_iload hx hb dX1_walk_53 (lv_at hl 4 rfl) ?_
          exact W.iret hx hb hret (fun t9 ht9 hW9 => ⟨⟨_, (F, Y, o), rfl, ⟨by rw [hsp, ← hx9, c_34, ww_wk_m1], hI⟩, by show va_P _ _ _ t9.heap; rw [ht9]; exact hP⟩, hS.F ht9⟩) hS.2.2 dX1_walk_55
        · refine lv_aload_n hx hb dX1_walk_37 rfl (lv_at hl 0 rfl) ?_
          refine lv_iload hx hb dX1_walk_38 (lv_at hl 4 rfl) ?_
          refine lv_iload_n hx hb dX1_walk_40 rfl (lv_at hl 1 rfl) ?_
          refine lv_iload_n hx hb dX1_walk_41 rfl (lv_at hl 2 rfl) ?_
          refine ww_rw (As := [.int x, .int ov, .int t]) (rest := []) ⟨hx, hb, hml, hown, hts⟩ hK hP hD hS hA (metX1_next l D a d n fW fC fP fX F Y o pl cu _ x ov t hI) rfl rfl (cwV 3 hts (lw_V q138 q130 q131 q19 q132) rfl rfl rfl (by decide +kernel) ⟨Nat.le_of_ble_eq_true rfl, Nat.le_of_ble_eq_true rfl⟩) rfl rfl (Nat.le_of_ble_eq_true rfl) hl.1 ⟨Nat.zero_le _, Nat.zero_le _⟩ dX1_walk_42 (fun r_42 u_42 H locs h_42 hP hk_42 hS => ?_)
          obtain ⟨g1, g2⟩ := h_42
          subst g1
          have hP : va_P D ww_cl (ww_X a d n fW fC fP fX u_42.1 u_42.2.1 u_42.2.2 pl cu) H := hP
          have hD : va_D A (ww_X a d n fW fC fP fX u_42.1 u_42.2.1 u_42.2.2 pl cu) := ww_Dad hD rfl
          refine lv_istore (lv' := [(5, .int (ww_q n (ww_nextS n fW fC fX) x ov t)), (0, .ref (a 0)), (2, .int ov), (3, .int t), (4, .int (nI kk)), (6, .int (nI i))]) hx hb dX1_walk_45 hl (by decide) rfl (fun ls hl => ?_)
          refine lv_iinc (v := nI (i + 1)) (lv' := [(6, .int (nI (i + 1))), (5, .int (ww_q n (ww_nextS n fW fC fX) x ov t)), (0, .ref (a 0)), (2, .int ov), (3, .int t), (4, .int (nI kk))]) hx hb dX1_walk_47 hl (k := 5) rfl (ww_inc i) (by decide) rfl (fun ls hl => ?_)
          refine lv_goto (tgt := 24) hx hb dX1_walk_50 (by decide) ?_
          exact ih (i + 1) (by omega) (by omega) _ u_42.1 u_42.2.1 u_42.2.2 (by rw [← hx9]; exact (ww_wk_s (fun x => ww_q n (ww_nextS n fW fC fX) x ov t) c_28 c_34).symm) g2 _ _ hP hD hS ls (lv_sub hl [2, 3, 4, 5, 1, 0] rfl)
  refine lv_iload hx hb dX1_walk_0 (lv_at hl 4 rfl) ?_
  refine lv_if_lt (tgt := 16) hx hb dX1_walk_2 (by decide) (fun c_2 => ?_) (fun c_2 => ?_)
  · refine lv_iconst (v := -1) hx hb dX1_walk_16 (by decide) ?_
    exact W.iret hx hb hret (fun t9 ht9 hW9 => ⟨⟨_, (fF, fY, ol), rfl, ⟨by unfold ww_walkS; rw [if_pos (Or.inl c_2)], hI⟩, by show va_P _ _ _ t9.heap; rw [ht9]; exact hP⟩, hS.F ht9⟩) hS.2.2 dX1_walk_17
  · refine lv_aload_n hx hb dX1_walk_5 rfl (lv_at hl 0 rfl) ?_
    refine lv_iload_n hx hb dX1_walk_6 rfl (lv_at hl 1 rfl) ?_
    refine lv_iload_n hx hb dX1_walk_7 rfl (lv_at hl 2 rfl) ?_
    refine lv_iload_n hx hb dX1_walk_8 rfl (lv_at hl 3 rfl) ?_
    refine ww_rw (As := [.int r, .int ov, .int t]) (rest := []) ⟨hx, hb, hml, hown, hts⟩ hK hP hD hS hA (metX1_far l D a d n fW fC fP fX fF fY ol pl cu _ r ov t hI) rfl rfl (cwV 3 hts (lw_V q137 q98 q99 q19 q100) rfl rfl rfl (by decide +kernel) ⟨Nat.le_of_ble_eq_true rfl, Nat.le_of_ble_eq_true rfl⟩) rfl rfl (Nat.le_of_ble_eq_true rfl) hl.1 ⟨Nat.zero_le _, Nat.zero_le _⟩ dX1_walk_9 (fun r_9 u_9 H locs h_9 hP hk_9 hS => ?_)
    obtain ⟨g1, g2⟩ := h_9
    subst g1
    have hP : va_P D ww_cl (ww_X a d n fW fC fP fX u_9.1 u_9.2.1 u_9.2.2 pl cu) H := hP
    have hD : va_D A (ww_X a d n fW fC fP fX u_9.1 u_9.2.1 u_9.2.2 pl cu) := ww_Dad hD rfl
    refine lv_iconst (v := -1) hx hb dX1_walk_12 (by decide) ?_
    refine lv_icmp_ne (tgt := 18) hx hb dX1_walk_13 (by decide) (fun c_13 => ?_) (fun c_13 => ?_)
    · obtain ⟨kk, hkk, rfl⟩ := nI_of c_2
      refine lv_iload_n hx hb dX1_walk_18 rfl (lv_at hl 1 rfl) ?_
      refine lv_istore (lv' := [(5, .int r), (0, .ref (a 0)), (1, .int r), (2, .int ov), (3, .int t), (4, .int (nI kk))]) hx hb dX1_walk_19 hl (by decide) rfl (fun ls hl => ?_)
      refine lv_iconst (v := nI 0) hx hb dX1_walk_21 (by decide) ?_
      refine lv_istore (lv' := [(6, .int (nI 0)), (5, .int r), (0, .ref (a 0)), (1, .int r), (2, .int ov), (3, .int t), (4, .int (nI kk))]) hx hb dX1_walk_22 hl (by decide) rfl (fun ls hl => ?_)
      exact loop kk hkk rfl (by unfold ww_walkS; rw [if_neg (fun z => by rcases z with z | z; exact c_2 z; exact c_13 z), nI_clamp hkk]) (kk + 1) 0 (by omega) (by omega) r u_9.1 u_9.2.1 u_9.2.2 rfl g2 _ _ hP hD hS ls (lv_sub hl [2, 4, 5, 6, 1, 0] rfl)
    · refine lv_iconst (v := -1) hx hb dX1_walk_16 (by decide) ?_
      exact W.iret hx hb hret (fun t9 ht9 hW9 => ⟨⟨_, u_9, rfl, ⟨by unfold ww_walkS; rw [if_pos (Or.inr c_13)], g2⟩, by show va_P _ _ _ t9.heap; rw [ht9]; exact hP⟩, hS.F ht9⟩) hS.2.2 dX1_walk_17
set_option maxHeartbeats 4000000 in
set_option maxRecDepth 100000 in
theorem metX1_reach (l : Launch) (D : va_G) (a : Nat → Nat) (d : Nat → ClassId) (n : Nat) (fW fC fP fX fF fY : Nat → Int32) (ol pl cu : Int32) (sz : Nat) (r : Int32) (hI : ww_inv n fW fC fP fX fF fY ol) : Met l yX1_reach (ws_ yX1_reach cX1_reach 4 (some .int)) ({ frames := 5, cells := 0, slots := 0, locals := 123 }) (va_Pc [.ref (a 0), .int r] (ww_C D (ww_tX d) (ww_X a d n fW fC fP fX fF fY ol pl cu) sz)) (va_Qi (fun (v : Int32) (u : (Nat → Int32) × (Nat → Int32) × Int32) => v = ww_reachS n fW fC fX r ∧ ww_inv n fW fC fP fX u.1 u.2.1 u.2.2) (fun (u : (Nat → Int32) × (Nat → Int32) × Int32) t => va_P D ww_cl (ww_X a d n fW fC fP fX u.1 u.2.1 u.2.2 pl cu) t.heap) (va_A (ww_X a d n fW fC fP fX fF fY ol pl cu) sz)) 0 0 (va_A (ww_X a d n fW fC fP fX fF fY ol pl cu) sz) := by
  refine Met.ofW (cc := cX1_reach) (maxL := 4) (ret := (some .int)) (by decide) rfl ?_
  intro pr e s m args below meth c s₁ B hml hv
  obtain ⟨rfl, hsz, hP, hK, hD0⟩ := hv
  have hx := B.exec
  have hb := B.bytes
  have hret := B.returns
  have hts := atoms_spec (ws := (ws_ yX1_reach cX1_reach 4 (some .int))) B.pre
  have hts : ∀ w ∈ lw_all, w.before _ s = true := fun w h => hts w (List.mem_cons_of_mem _ h)
  have hown : s.vm.findClass RX1 = some m.cls := findClass_of_methodNamed B.named
  have hlocks := B.notSynchronized
  subst hsz
  have hD := hD0.self (sz := s.heap.size)
  generalize hAe : va_A (ww_X a d n fW fC fP fX fF fY ol pl cu) s.heap.size = A at hD ⊢
  have hA : ∀ q : Nat, s.heap.size ≤ q → A q := fun q h => by rw [← hAe]; exact Or.inr h
  have hS : va_S A s.heap s.heap [] := va_S.rf
  have hP : va_P D ww_cl (ww_X a d n fW fC fP fX fF fY ol pl cu) s.heap := hP
  have hl := lv_entry ([.ref (a 0), .int r]) (n := 4) (Nat.le_of_ble_eq_true rfl)
  rw [lg_entry_eq]
  generalize (lg_sl ([.ref (a 0), .int r]) ++ List.replicate (4 - (lg_sl ([.ref (a 0), .int r])).length) Slot.unset).toArray = ls at hl ⊢
  have hl : lv_has ls 4 [(0, .ref (a 0)), (1, .int r)] := hl
  have hn := hI.2.1
  have loop : ww_isR n r → ∀ (j t : Nat), t ≤ n → n + 1 ≤ t + j → ∀ (F Y : Nat → Int32) (o : Int32), ww_inv n fW fC fP fX F Y o → ∀ (H : Heap) (locs : List Loc), va_P D ww_cl (ww_X a d n fW fC fP fX F Y o pl cu) H → va_D A (ww_X a d n fW fC fP fX F Y o pl cu) → va_S A s.heap H locs → ∀ (ls : Array Slot), lv_has ls 4 [(0, .ref (a 0)), (1, .int r), (2, .int (nI (ww_rc (fun t => ww_q n (ww_farS n fW fC fX) r (nI 0) (nI t)) t))), (3, .int (nI t))] → W pr l e (headSpec (ws_ yX1_reach cX1_reach 4 (some .int)) ({ frames := 5, cells := 0, slots := 0, locals := 123 })).room s m ([.ref (a 0), .int r] : List Value).toArray below meth c H locs 0 0 (MQ below (va_Qi (fun (v : Int32) (u : (Nat → Int32) × (Nat → Int32) × Int32) => v = ww_reachS n fW fC fX r ∧ ww_inv n fW fC fP fX u.1 u.2.1 u.2.2) (fun (u : (Nat → Int32) × (Nat → Int32) × Int32) t => va_P D ww_cl (ww_X a d n fW fC fP fX u.1 u.2.1 u.2.2 pl cu) t.heap) A) ([.ref (a 0), .int r] : List Value).toArray s 0 0 A) (F0 m 18 ls []) := by
    intro hR j
    induction j with
    | zero => intro t h1 h2; exact absurd h2 (by omega)
    | succ j ih =>
      intro t h1 h2 F Y o hI H locs hP hD hS ls hl
      refine lv_iload_n hx hb dX1_reach_18 rfl (lv_at hl 3 rfl) ?_
      refine lv_aload_n hx hb dX1_reach_19 rfl (lv_at hl 0 rfl) ?_
      refine ww_gX 0 q36 rfl hx hb hts hown hK hP dX1_reach_20 ?_
      refine ww_icmp_ge (tgt := 51) hx hb dX1_reach_23 (by decide) (fun c_23 => ?_) (fun c_23 => ?_)
      · refine lv_iload_n hx hb dX1_reach_51 rfl (lv_at hl 2 rfl) ?_
        exact W.iret hx hb hret (fun t9 ht9 hW9 => ⟨⟨_, (F, Y, o), rfl, ⟨by unfold ww_reachS; rw [if_pos hR, show t = n by omega], hI⟩, by show va_P _ _ _ t9.heap; rw [ht9]; exact hP⟩, hS.F ht9⟩) hS.2.2 dX1_reach_52
      · refine lv_iload_n hx hb dX1_reach_26 rfl (lv_at hl 2 rfl) ?_
        refine lv_aload_n hx hb dX1_reach_27 rfl (lv_at hl 0 rfl) ?_
        refine lv_iload_n hx hb dX1_reach_28 rfl (lv_at hl 1 rfl) ?_
        refine lv_iconst (v := nI 0) hx hb dX1_reach_29 (by decide) ?_
        refine lv_iload_n hx hb dX1_reach_30 rfl (lv_at hl 3 rfl) ?_
        refine ww_rw (As := [.int r, .int (nI 0), .int (nI t)]) (rest := [.int (nI (ww_rc (fun t => ww_q n (ww_farS n fW fC fX) r (nI 0) (nI t)) t))]) ⟨hx, hb, hml, hown, hts⟩ hK hP hD hS hA (metX1_far l D a d n fW fC fP fX F Y o pl cu _ r (nI 0) (nI t) hI) rfl rfl (cwV 3 hts (lw_V q137 q98 q99 q19 q100) rfl rfl rfl (by decide +kernel) ⟨Nat.le_of_ble_eq_true rfl, Nat.le_of_ble_eq_true rfl⟩) rfl rfl (Nat.le_of_ble_eq_true rfl) hl.1 ⟨Nat.zero_le _, Nat.zero_le _⟩ dX1_reach_31 (fun r_31 u_31 H locs h_31 hP hk_31 hS => ?_)
        obtain ⟨g1, g2⟩ := h_31
        subst g1
        have hP : va_P D ww_cl (ww_X a d n fW fC fP fX u_31.1 u_31.2.1 u_31.2.2 pl cu) H := hP
        have hD : va_D A (ww_X a d n fW fC fP fX u_31.1 u_31.2.1 u_31.2.2 pl cu) := ww_Dad hD rfl
        refine lv_iconst (v := -1) hx hb dX1_reach_34 (by decide) ?_
        refine lv_icmp_ne (tgt := 42) hx hb dX1_reach_35 (by decide) (fun c_35 => ?_) (fun c_35 => ?_)
        · refine lv_iconst (v := nI 1) hx hb dX1_reach_42 (by decide) ?_
          refine ww_iadd hx hb dX1_reach_43 ?_
          refine ww_top (ww_rc_1 (fun t => ww_q n (ww_farS n fW fC fX) r (nI 0) (nI t)) c_35) ?_
          refine lv_istore_n (lv' := [(2, .int (nI (ww_rc (fun t => ww_q n (ww_farS n fW fC fX) r (nI 0) (nI t)) (t + 1)))), (0, .ref (a 0)), (1, .int r), (3, .int (nI t))]) hx hb dX1_reach_44 rfl hl (by decide) rfl (fun ls hl => ?_)
          refine lv_iinc (v := nI (t + 1)) (lv' := [(3, .int (nI (t + 1))), (2, .int (nI (ww_rc (fun t => ww_q n (ww_farS n fW fC fX) r (nI 0) (nI t)) (t + 1)))), (0, .ref (a 0)), (1, .int r)]) hx hb dX1_reach_45 hl (k := 3) rfl (ww_inc t) (by decide) rfl (fun ls hl => ?_)
          refine lv_goto (tgt := 18) hx hb dX1_reach_48 (by decide) ?_
          exact ih (t + 1) (by omega) (by omega) u_31.1 u_31.2.1 u_31.2.2 g2 _ _ hP hD hS ls (lv_sub hl [2, 3, 1, 0] rfl)
        · refine lv_iconst (v := nI 0) hx hb dX1_reach_38 (by decide) ?_
          refine lv_goto (tgt := 43) hx hb dX1_reach_39 (by decide) ?_
          refine ww_iadd hx hb dX1_reach_43 ?_
          refine ww_top (ww_rc_0 (fun t => ww_q n (ww_farS n fW fC fX) r (nI 0) (nI t)) c_35) ?_
          refine lv_istore_n (lv' := [(2, .int (nI (ww_rc (fun t => ww_q n (ww_farS n fW fC fX) r (nI 0) (nI t)) (t + 1)))), (0, .ref (a 0)), (1, .int r), (3, .int (nI t))]) hx hb dX1_reach_44 rfl hl (by decide) rfl (fun ls hl => ?_)
          refine lv_iinc (v := nI (t + 1)) (lv' := [(3, .int (nI (t + 1))), (2, .int (nI (ww_rc (fun t => ww_q n (ww_farS n fW fC fX) r (nI 0) (nI t)) (t + 1)))), (0, .ref (a 0)), (1, .int r)]) hx hb dX1_reach_45 hl (k := 3) rfl (ww_inc t) (by decide) rfl (fun ls hl => ?_)
          refine lv_goto (tgt := 18) hx hb dX1_reach_48 (by decide) ?_
          exact ih (t + 1) (by omega) (by omega) u_31.1 u_31.2.1 u_31.2.2 g2 _ _ hP hD hS ls (lv_sub hl [2, 3, 1, 0] rfl)
  refine lv_iload_n hx hb dX1_reach_0 rfl (lv_at hl 1 rfl) ?_
  refine lv_if_lt (tgt := 12) hx hb dX1_reach_1 (by decide) (fun c_1 => ?_) (fun c_1 => ?_)
  · refine lv_iconst (v := -1) hx hb dX1_reach_12 (by decide) ?_
    exact W.iret hx hb hret (fun t9 ht9 hW9 => ⟨⟨_, (fF, fY, ol), rfl, ⟨by unfold ww_reachS; rw [if_neg (fun z => z.1 c_1)], hI⟩, by show va_P _ _ _ t9.heap; rw [ht9]; exact hP⟩, hS.F ht9⟩) hS.2.2 dX1_reach_13
  · refine lv_iload_n hx hb dX1_reach_4 rfl (lv_at hl 1 rfl) ?_
    refine lv_aload_n hx hb dX1_reach_5 rfl (lv_at hl 0 rfl) ?_
    refine ww_gX 0 q36 rfl hx hb hts hown hK hP dX1_reach_6 ?_
    refine lv_icmp_lt (tgt := 14) hx hb dX1_reach_9 (by decide) (fun c_9 => ?_) (fun c_9 => ?_)
    · refine lv_iconst (v := nI 0) hx hb dX1_reach_14 (by decide) ?_
      refine lv_istore_n (lv' := [(2, .int (nI 0)), (0, .ref (a 0)), (1, .int r)]) hx hb dX1_reach_15 rfl hl (by decide) rfl (fun ls hl => ?_)
      refine lv_iconst (v := nI 0) hx hb dX1_reach_16 (by decide) ?_
      refine lv_istore_n (lv' := [(3, .int (nI 0)), (2, .int (nI 0)), (0, .ref (a 0)), (1, .int r)]) hx hb dX1_reach_17 rfl hl (by decide) rfl (fun ls hl => ?_)
      exact loop ⟨c_1, ww_not_le.mpr c_9⟩ (n + 1) 0 (by omega) (by omega) fF fY ol hI _ _ hP hD hS ls (lv_sub hl [2, 3, 1, 0] rfl)
    · refine lv_iconst (v := -1) hx hb dX1_reach_12 (by decide) ?_
      exact W.iret hx hb hret (fun t9 ht9 hW9 => ⟨⟨_, (fF, fY, ol), rfl, ⟨by unfold ww_reachS; rw [if_neg (fun z => z.2 (ww_not_lt.mp c_9))], hI⟩, by show va_P _ _ _ t9.heap; rw [ht9]; exact hP⟩, hS.F ht9⟩) hS.2.2 dX1_reach_13
set_option maxHeartbeats 4000000 in
set_option maxRecDepth 100000 in
theorem metX1_greatest (l : Launch) (D : va_G) (a : Nat → Nat) (d : Nat → ClassId) (n : Nat) (fW fC fP fX fF fY : Nat → Int32) (ol pl cu : Int32) (sz : Nat)  (hI : ww_inv n fW fC fP fX fF fY ol) : Met l yX1_greatest (ws_ yX1_greatest cX1_greatest 4 (some .int)) ({ frames := 5, cells := 0, slots := 0, locals := 123 }) (va_Pc [.ref (a 0)] (ww_C D (ww_tX d) (ww_X a d n fW fC fP fX fF fY ol pl cu) sz)) (va_Qi (fun (v : Int32) (u : (Nat → Int32) × (Nat → Int32) × Int32) => (∃ M, v = nI M ∧ ww_gr n fW fC fX M) ∧ ww_inv n fW fC fP fX u.1 u.2.1 u.2.2) (fun (u : (Nat → Int32) × (Nat → Int32) × Int32) t => va_P D ww_cl (ww_X a d n fW fC fP fX u.1 u.2.1 u.2.2 pl cu) t.heap) (va_A (ww_X a d n fW fC fP fX fF fY ol pl cu) sz)) 0 0 (va_A (ww_X a d n fW fC fP fX fF fY ol pl cu) sz) := by
  refine Met.ofW (cc := cX1_greatest) (maxL := 4) (ret := (some .int)) (by decide) rfl ?_
  intro pr e s m args below meth c s₁ B hml hv
  obtain ⟨rfl, hsz, hP, hK, hD0⟩ := hv
  have hx := B.exec
  have hb := B.bytes
  have hret := B.returns
  have hts := atoms_spec (ws := (ws_ yX1_greatest cX1_greatest 4 (some .int))) B.pre
  have hts : ∀ w ∈ lw_all, w.before _ s = true := fun w h => hts w (List.mem_cons_of_mem _ h)
  have hown : s.vm.findClass RX1 = some m.cls := findClass_of_methodNamed B.named
  have hlocks := B.notSynchronized
  subst hsz
  have hD := hD0.self (sz := s.heap.size)
  generalize hAe : va_A (ww_X a d n fW fC fP fX fF fY ol pl cu) s.heap.size = A at hD ⊢
  have hA : ∀ q : Nat, s.heap.size ≤ q → A q := fun q h => by rw [← hAe]; exact Or.inr h
  have hS : va_S A s.heap s.heap [] := va_S.rf
  have hP : va_P D ww_cl (ww_X a d n fW fC fP fX fF fY ol pl cu) s.heap := hP
  have hl := lv_entry ([.ref (a 0)]) (n := 4) (Nat.le_of_ble_eq_true rfl)
  rw [lg_entry_eq]
  generalize (lg_sl ([.ref (a 0)]) ++ List.replicate (4 - (lg_sl ([.ref (a 0)])).length) Slot.unset).toArray = ls at hl ⊢
  have hl : lv_has ls 4 [(0, .ref (a 0))] := hl
  have hn := hI.2.1
  have loopT : ∀ (r : Nat), r < n → (∀ (M : Nat) (F Y : Nat → Int32) (o : Int32), ww_gi n fW fC fX M (fun x y => x < (r + 1) ∨ (x = (r + 1) ∧ y < 0)) → ww_inv n fW fC fP fX F Y o → ∀ (H : Heap) (locs : List Loc), va_P D ww_cl (ww_X a d n fW fC fP fX F Y o pl cu) H → va_D A (ww_X a d n fW fC fP fX F Y o pl cu) → va_S A s.heap H locs → ∀ (ls : Array Slot), lv_has ls 4 [(0, .ref (a 0)), (1, .int (nI M)), (2, .int (nI r))] → W pr l e (headSpec (ws_ yX1_greatest cX1_greatest 4 (some .int)) ({ frames := 5, cells := 0, slots := 0, locals := 123 })).room s m ([.ref (a 0)] : List Value).toArray below meth c H locs 0 0 (MQ below (va_Qi (fun (v : Int32) (u : (Nat → Int32) × (Nat → Int32) × Int32) => (∃ M, v = nI M ∧ ww_gr n fW fC fX M) ∧ ww_inv n fW fC fP fX u.1 u.2.1 u.2.2) (fun (u : (Nat → Int32) × (Nat → Int32) × Int32) t => va_P D ww_cl (ww_X a d n fW fC fP fX u.1 u.2.1 u.2.2 pl cu) t.heap) A) ([.ref (a 0)] : List Value).toArray s 0 0 A) (F0 m 40 ls [])) → ∀ (j t : Nat), t ≤ n → n + 1 ≤ t + j → ∀ (M : Nat) (F Y : Nat → Int32) (o : Int32), ww_gi n fW fC fX M (fun x y => x < r ∨ (x = r ∧ y < t)) → ww_inv n fW fC fP fX F Y o → ∀ (H : Heap) (locs : List Loc), va_P D ww_cl (ww_X a d n fW fC fP fX F Y o pl cu) H → va_D A (ww_X a d n fW fC fP fX F Y o pl cu) → va_S A s.heap H locs → ∀ (ls : Array Slot), lv_has ls 4 [(0, .ref (a 0)), (1, .int (nI M)), (2, .int (nI r)), (3, .int (nI t))] → W pr l e (headSpec (ws_ yX1_greatest cX1_greatest 4 (some .int)) ({ frames := 5, cells := 0, slots := 0, locals := 123 })).room s m ([.ref (a 0)] : List Value).toArray below meth c H locs 0 0 (MQ below (va_Qi (fun (v : Int32) (u : (Nat → Int32) × (Nat → Int32) × Int32) => (∃ M, v = nI M ∧ ww_gr n fW fC fX M) ∧ ww_inv n fW fC fP fX u.1 u.2.1 u.2.2) (fun (u : (Nat → Int32) × (Nat → Int32) × Int32) t => va_P D ww_cl (ww_X a d n fW fC fP fX u.1 u.2.1 u.2.2 pl cu) t.heap) A) ([.ref (a 0)] : List Value).toArray s 0 0 A) (F0 m 14 ls []) := by
    intro r hr kont j
    induction j with
    | zero => intro t h1 h2; exact absurd h2 (by omega)
    | succ j ih =>
      intro t h1 h2 M F Y o hG hI H locs hP hD hS ls hl
      refine lv_iload_n hx hb dX1_greatest_14 rfl (lv_at hl 3 rfl) ?_
      refine lv_aload_n hx hb dX1_greatest_15 rfl (lv_at hl 0 rfl) ?_
      refine ww_gX 0 q36 rfl hx hb hts hown hK hP dX1_greatest_16 ?_
      refine ww_icmp_ge (tgt := 40) hx hb dX1_greatest_19 (by decide) (fun c_19 => ?_) (fun c_19 => ?_)
      · exact kont M F Y o (ww_gi_mono hG (fun x y _ _ z => by omega)) hI _ _ hP hD hS ls (lv_sub hl [0, 1, 2] rfl)
      · refine lv_iload_n hx hb dX1_greatest_22 rfl (lv_at hl 1 rfl) ?_
        refine lv_aload_n hx hb dX1_greatest_23 rfl (lv_at hl 0 rfl) ?_
        refine lv_iload_n hx hb dX1_greatest_24 rfl (lv_at hl 2 rfl) ?_
        refine lv_iconst (v := nI 0) hx hb dX1_greatest_25 (by decide) ?_
        refine lv_iload_n hx hb dX1_greatest_26 rfl (lv_at hl 3 rfl) ?_
        refine ww_rw (As := [.int (nI r), .int (nI 0), .int (nI t)]) (rest := [.int (nI M)]) ⟨hx, hb, hml, hown, hts⟩ hK hP hD hS hA (metX1_far l D a d n fW fC fP fX F Y o pl cu _ (nI r) (nI 0) (nI t) hI) rfl rfl (cwV 3 hts (lw_V q137 q98 q99 q19 q100) rfl rfl rfl (by decide +kernel) ⟨Nat.le_of_ble_eq_true rfl, Nat.le_of_ble_eq_true rfl⟩) rfl rfl (Nat.le_of_ble_eq_true rfl) hl.1 ⟨Nat.zero_le _, Nat.zero_le _⟩ dX1_greatest_27 (fun r_27 u_27 H locs h_27 hP hk_27 hS => ?_)
        obtain ⟨g1, g2⟩ := h_27
        rw [ww_q_rt hn hr c_19] at g1
        subst g1
        have hP : va_P D ww_cl (ww_X a d n fW fC fP fX u_27.1 u_27.2.1 u_27.2.2 pl cu) H := hP
        have hD : va_D A (ww_X a d n fW fC fP fX u_27.1 u_27.2.1 u_27.2.2 pl cu) := ww_Dad hD rfl
        refine va_mmax hx hb (by rw [hml]; exact hl.1.symm) hown (hts _ q33) (hts _ q34) (hts _ q20) (hts _ q35) (Nat.le_of_ble_eq_true rfl) (Nat.le_of_ble_eq_true rfl) (Nat.zero_le _) (Nat.zero_le _) dX1_greatest_30 ?_
        refine ww_top (ww_m2_max hG.1) ?_
        refine lv_istore_n (lv' := [(1, .int (nI (ww_m2 n fW fC fX M r t))), (0, .ref (a 0)), (2, .int (nI r)), (3, .int (nI t))]) hx hb dX1_greatest_33 rfl hl (by decide) rfl (fun ls hl => ?_)
        refine lv_iinc (v := nI (t + 1)) (lv' := [(3, .int (nI (t + 1))), (1, .int (nI (ww_m2 n fW fC fX M r t))), (0, .ref (a 0)), (2, .int (nI r))]) hx hb dX1_greatest_34 hl (k := 3) rfl (ww_inc t) (by decide) rfl (fun ls hl => ?_)
        refine lv_goto (tgt := 14) hx hb dX1_greatest_37 (by decide) ?_
        exact ih (t + 1) (by omega) (by omega) _ u_27.1 u_27.2.1 u_27.2.2 (ww_gi_step hG hr c_19 (fun x y _ _ z => by omega)) g2 _ _ hP hD hS ls (lv_sub hl [2, 1, 3, 0] rfl)
  have loopR : ∀ (j r : Nat), r ≤ n → n + 1 ≤ r + j → ∀ (M : Nat) (F Y : Nat → Int32) (o : Int32), ww_gi n fW fC fX M (fun x y => x < r ∨ (x = r ∧ y < 0)) → ww_inv n fW fC fP fX F Y o → ∀ (H : Heap) (locs : List Loc), va_P D ww_cl (ww_X a d n fW fC fP fX F Y o pl cu) H → va_D A (ww_X a d n fW fC fP fX F Y o pl cu) → va_S A s.heap H locs → ∀ (ls : Array Slot), lv_has ls 4 [(0, .ref (a 0)), (1, .int (nI M)), (2, .int (nI r))] → W pr l e (headSpec (ws_ yX1_greatest cX1_greatest 4 (some .int)) ({ frames := 5, cells := 0, slots := 0, locals := 123 })).room s m ([.ref (a 0)] : List Value).toArray below meth c H locs 0 0 (MQ below (va_Qi (fun (v : Int32) (u : (Nat → Int32) × (Nat → Int32) × Int32) => (∃ M, v = nI M ∧ ww_gr n fW fC fX M) ∧ ww_inv n fW fC fP fX u.1 u.2.1 u.2.2) (fun (u : (Nat → Int32) × (Nat → Int32) × Int32) t => va_P D ww_cl (ww_X a d n fW fC fP fX u.1 u.2.1 u.2.2 pl cu) t.heap) A) ([.ref (a 0)] : List Value).toArray s 0 0 A) (F0 m 4 ls []) := by
    intro j
    induction j with
    | zero => intro r h1 h2; exact absurd h2 (by omega)
    | succ j ih =>
      intro r h1 h2 M F Y o hG hI H locs hP hD hS ls hl
      refine lv_iload_n hx hb dX1_greatest_4 rfl (lv_at hl 2 rfl) ?_
      refine lv_aload_n hx hb dX1_greatest_5 rfl (lv_at hl 0 rfl) ?_
      refine ww_gX 0 q36 rfl hx hb hts hown hK hP dX1_greatest_6 ?_
      refine ww_icmp_ge (tgt := 46) hx hb dX1_greatest_9 (by decide) (fun c_9 => ?_) (fun c_9 => ?_)
      · refine lv_iload_n hx hb dX1_greatest_46 rfl (lv_at hl 1 rfl) ?_
        exact W.iret hx hb hret (fun t9 ht9 hW9 => ⟨⟨_, (F, Y, o), rfl, ⟨⟨M, rfl, ww_gi_end hG (fun x y _ _ => by omega)⟩, hI⟩, by show va_P _ _ _ t9.heap; rw [ht9]; exact hP⟩, hS.F ht9⟩) hS.2.2 dX1_greatest_47
      · have k40 : ∀ (M : Nat) (F Y : Nat → Int32) (o : Int32), ww_gi n fW fC fX M (fun x y => x < (r + 1) ∨ (x = (r + 1) ∧ y < 0)) → ww_inv n fW fC fP fX F Y o → ∀ (H : Heap) (locs : List Loc), va_P D ww_cl (ww_X a d n fW fC fP fX F Y o pl cu) H → va_D A (ww_X a d n fW fC fP fX F Y o pl cu) → va_S A s.heap H locs → ∀ (ls : Array Slot), lv_has ls 4 [(0, .ref (a 0)), (1, .int (nI M)), (2, .int (nI r))] → W pr l e (headSpec (ws_ yX1_greatest cX1_greatest 4 (some .int)) ({ frames := 5, cells := 0, slots := 0, locals := 123 })).room s m ([.ref (a 0)] : List Value).toArray below meth c H locs 0 0 (MQ below (va_Qi (fun (v : Int32) (u : (Nat → Int32) × (Nat → Int32) × Int32) => (∃ M, v = nI M ∧ ww_gr n fW fC fX M) ∧ ww_inv n fW fC fP fX u.1 u.2.1 u.2.2) (fun (u : (Nat → Int32) × (Nat → Int32) × Int32) t => va_P D ww_cl (ww_X a d n fW fC fP fX u.1 u.2.1 u.2.2 pl cu) t.heap) A) ([.ref (a 0)] : List Value).toArray s 0 0 A) (F0 m 40 ls []) := by
          intro M F Y o hG hI H locs hP hD hS ls hl
          refine lv_iinc (v := nI (r + 1)) (lv' := [(2, .int (nI (r + 1))), (0, .ref (a 0)), (1, .int (nI M))]) hx hb dX1_greatest_40 hl (k := 2) rfl (ww_inc r) (by decide) rfl (fun ls hl => ?_)
          refine lv_goto (tgt := 4) hx hb dX1_greatest_43 (by decide) ?_
          exact ih (r + 1) (by omega) (by omega) M F Y o hG hI _ _ hP hD hS ls (lv_sub hl [1, 2, 0] rfl)
        refine lv_iconst (v := nI 0) hx hb dX1_greatest_12 (by decide) ?_
        refine lv_istore_n (lv' := [(3, .int (nI 0)), (0, .ref (a 0)), (1, .int (nI M)), (2, .int (nI r))]) hx hb dX1_greatest_13 rfl hl (by decide) rfl (fun ls hl => ?_)
        exact loopT r c_9 k40 (n + 1) 0 (by omega) (by omega) M F Y o hG hI _ _ hP hD hS ls (lv_sub hl [1, 2, 3, 0] rfl)
  refine lv_iconst (v := nI 0) hx hb dX1_greatest_0 (by decide) ?_
  refine lv_istore_n (lv' := [(1, .int (nI 0)), (0, .ref (a 0))]) hx hb dX1_greatest_1 rfl hl (by decide) rfl (fun ls hl => ?_)
  refine lv_iconst (v := nI 0) hx hb dX1_greatest_2 (by decide) ?_
  refine lv_istore_n (lv' := [(2, .int (nI 0)), (1, .int (nI 0)), (0, .ref (a 0))]) hx hb dX1_greatest_3 rfl hl (by decide) rfl (fun ls hl => ?_)
  exact loopR (n + 1) 0 (by omega) (by omega) 0 fF fY ol ⟨by omega, fun x y _ _ z => by omega, Or.inl rfl⟩ hI _ _ hP hD hS ls (lv_sub hl [2, 1, 0] rfl)
set_option maxHeartbeats 4000000 in
set_option maxRecDepth 100000 in
theorem metX1_count (l : Launch) (D : va_G) (a : Nat → Nat) (d : Nat → ClassId) (n : Nat) (fW fC fP fX fF fY : Nat → Int32) (ol pl cu : Int32) (sz : Nat) (k : Int32) (hI : ww_inv n fW fC fP fX fF fY ol) : Met l yX1_count (ws_ yX1_count cX1_count 2 (some .int)) ({ frames := 6, cells := 0, slots := 0, locals := 146 }) (va_Pc [.ref (a 0), .int k] (ww_C D (ww_tX d) (ww_X a d n fW fC fP fX fF fY ol pl cu) sz)) (va_Qi (fun (v : Int32) (u : (Nat → Int32) × (Nat → Int32) × Int32) => ww_cnt n fW fC fX pl cu k v ∧ ww_inv n fW fC fP fX u.1 u.2.1 u.2.2) (fun (u : (Nat → Int32) × (Nat → Int32) × Int32) t => va_P D ww_cl (ww_X a d n fW fC fP fX u.1 u.2.1 u.2.2 pl cu) t.heap) (va_A (ww_X a d n fW fC fP fX fF fY ol pl cu) sz)) 0 0 (va_A (ww_X a d n fW fC fP fX fF fY ol pl cu) sz) := by
  refine Met.ofW (cc := cX1_count) (maxL := 2) (ret := (some .int)) (by decide) rfl ?_
  intro pr e s m args below meth c s₁ B hml hv
  obtain ⟨rfl, hsz, hP, hK, hD0⟩ := hv
  have hx := B.exec
  have hb := B.bytes
  have hret := B.returns
  have hts := atoms_spec (ws := (ws_ yX1_count cX1_count 2 (some .int))) B.pre
  have hts : ∀ w ∈ lw_all, w.before _ s = true := fun w h => hts w (List.mem_cons_of_mem _ h)
  have hown : s.vm.findClass RX1 = some m.cls := findClass_of_methodNamed B.named
  have hlocks := B.notSynchronized
  subst hsz
  have hD := hD0.self (sz := s.heap.size)
  generalize hAe : va_A (ww_X a d n fW fC fP fX fF fY ol pl cu) s.heap.size = A at hD ⊢
  have hA : ∀ q : Nat, s.heap.size ≤ q → A q := fun q h => by rw [← hAe]; exact Or.inr h
  have hS : va_S A s.heap s.heap [] := va_S.rf
  have hP : va_P D ww_cl (ww_X a d n fW fC fP fX fF fY ol pl cu) s.heap := hP
  have hl := lv_entry ([.ref (a 0), .int k]) (n := 2) (Nat.le_of_ble_eq_true rfl)
  rw [lg_entry_eq]
  generalize (lg_sl ([.ref (a 0), .int k]) ++ List.replicate (2 - (lg_sl ([.ref (a 0), .int k])).length) Slot.unset).toArray = ls at hl ⊢
  have hl : lv_has ls 2 [(0, .ref (a 0)), (1, .int k)] := hl
  refine lv_iload_n hx hb dX1_count_0 rfl (lv_at hl 1 rfl) ?_
  rcases pk_ix k (n := 4) (by decide) with z | z | ⟨j, hj, rfl⟩
  · refine lv_tableOut (tgt := 52) hx hb dX1_count_1 (Or.inl (by rw [Int32.lt_iff_toInt_lt] at z; exact z)) (by decide) ?_
    refine lv_iconst (v := -1) hx hb dX1_count_52 (by decide) ?_
    exact W.iret hx hb hret (fun t9 ht9 hW9 => ⟨⟨_, (fF, fY, ol), rfl, ⟨ww_cnt_out (fun y => by rw [y] at z; exact absurd z (by decide)) (fun y => by rw [y] at z; exact absurd z (by decide)) (fun y => by rw [y] at z; exact absurd z (by decide)) (fun y => by rw [y] at z; exact absurd z (by decide)), hI⟩, by show va_P _ _ _ t9.heap; rw [ht9]; exact hP⟩, hS.F ht9⟩) hS.2.2 dX1_count_53
  · refine lv_tableOut (tgt := 52) hx hb dX1_count_1 (Or.inr (by rw [Int32.le_iff_toInt_le, nI_toInt (by decide)] at z; omega)) (by decide) ?_
    refine lv_iconst (v := -1) hx hb dX1_count_52 (by decide) ?_
    exact W.iret hx hb hret (fun t9 ht9 hW9 => ⟨⟨_, (fF, fY, ol), rfl, ⟨ww_cnt_out (fun y => by rw [y] at z; exact absurd z (by decide)) (fun y => by rw [y] at z; exact absurd z (by decide)) (fun y => by rw [y] at z; exact absurd z (by decide)) (fun y => by rw [y] at z; exact absurd z (by decide)), hI⟩, by show va_P _ _ _ t9.heap; rw [ht9]; exact hP⟩, hS.F ht9⟩) hS.2.2 dX1_count_53
  · rcases (show j = 0 ∨ j = 1 ∨ j = 2 ∨ j = 3 by omega) with rfl | rfl | rfl | rfl
    · refine lv_tableIn (tgt := 32) (off := 31) hx hb dX1_count_1 (by decide) (by decide) (by decide) (by decide) ?_
      refine lv_aload_n hx hb dX1_count_32 rfl (lv_at hl 0 rfl) ?_
      refine ww_gX 0 q36 rfl hx hb hts hown hK hP dX1_count_33 ?_
      exact W.iret hx hb hret (fun t9 ht9 hW9 => ⟨⟨_, (fF, fY, ol), rfl, ⟨ww_cnt_0 rfl, hI⟩, by show va_P _ _ _ t9.heap; rw [ht9]; exact hP⟩, hS.F ht9⟩) hS.2.2 dX1_count_36
    · refine lv_tableIn (tgt := 37) (off := 36) hx hb dX1_count_1 (by decide) (by decide) (by decide) (by decide) ?_
      refine lv_aload_n hx hb dX1_count_37 rfl (lv_at hl 0 rfl) ?_
      refine ww_gX 8 q44 rfl hx hb hts hown hK hP dX1_count_38 ?_
      exact W.iret hx hb hret (fun t9 ht9 hW9 => ⟨⟨_, (fF, fY, ol), rfl, ⟨ww_cnt_1 rfl, hI⟩, by show va_P _ _ _ t9.heap; rw [ht9]; exact hP⟩, hS.F ht9⟩) hS.2.2 dX1_count_41
    · refine lv_tableIn (tgt := 42) (off := 41) hx hb dX1_count_1 (by decide) (by decide) (by decide) (by decide) ?_
      refine lv_aload_n hx hb dX1_count_42 rfl (lv_at hl 0 rfl) ?_
      refine ww_gX 9 q45 rfl hx hb hts hown hK hP dX1_count_43 ?_
      exact W.iret hx hb hret (fun t9 ht9 hW9 => ⟨⟨_, (fF, fY, ol), rfl, ⟨ww_cnt_2 rfl, hI⟩, by show va_P _ _ _ t9.heap; rw [ht9]; exact hP⟩, hS.F ht9⟩) hS.2.2 dX1_count_46
    · refine lv_tableIn (tgt := 47) (off := 46) hx hb dX1_count_1 (by decide) (by decide) (by decide) (by decide) ?_
      refine lv_aload_n hx hb dX1_count_47 rfl (lv_at hl 0 rfl) ?_
      refine ww_rw (As := []) (rest := []) ⟨hx, hb, hml, hown, hts⟩ hK hP hD hS hA (metX1_greatest l D a d n fW fC fP fX fF fY ol pl cu _ hI) rfl rfl (cwV 0 hts (lw_V q147 q149 qs8 q19 q150) rfl rfl rfl (by decide +kernel) ⟨Nat.le_of_ble_eq_true rfl, Nat.le_of_ble_eq_true rfl⟩) rfl rfl (Nat.le_of_ble_eq_true rfl) hl.1 ⟨Nat.zero_le _, Nat.zero_le _⟩ dX1_count_48 (fun r_48 u_48 H locs h_48 hP hk_48 hS => ?_)
      obtain ⟨⟨M, g0, g1⟩, g2⟩ := h_48
      subst g0
      have hP : va_P D ww_cl (ww_X a d n fW fC fP fX u_48.1 u_48.2.1 u_48.2.2 pl cu) H := hP
      have hD : va_D A (ww_X a d n fW fC fP fX u_48.1 u_48.2.1 u_48.2.2 pl cu) := ww_Dad hD rfl
      exact W.iret hx hb hret (fun t9 ht9 hW9 => ⟨⟨_, u_48, rfl, ⟨ww_cnt_3 ⟨M, rfl, g1⟩, g2⟩, by show va_P _ _ _ t9.heap; rw [ht9]; exact hP⟩, hS.F ht9⟩) hS.2.2 dX1_count_51
end
section
/-! plain facts for the reference -/
def ww_z (Z : Nat → Int32) (r : Nat) : Nat := (Z r).toNatClampNeg
def ww_mh (n : Nat) (W C X : Nat → Int32) (a : Nat) (Z : Nat → Int32) : Prop := (∀ x, x < n → Z x = nI (ww_z Z x)) ∧ ww_hs 100000 n W C X a (ww_z Z)
def ww_mz (n : Nat) (W C X : Nat → Int32) (a : Nat) (Z : Nat → Int32) : Prop := (∀ x, x < n → Z x = nI (ww_z Z x)) ∧ ww_sol 100000 n W C X a (ww_z Z)
def ww_zin (n : Nat) (W X : Nat → Int32) (a : Nat) (Z : Nat → Int32) (r : Nat) : Prop := ∀ x, x < n → x < r → Z x = nI (if ww_at W X a x then 0 else 100000)
theorem ww_zin_t {n : Nat} {W X : Nat → Int32} {a : Nat} {Z : Nat → Int32} {r : Nat} (h : ww_zin n W X a Z r) (hat : ww_at W X a r) : ww_zin n W X a (upd Z r (nI 0)) (r + 1) := by
  intro x hx hd
  by_cases e : x = r
  · subst e
    rw [pk_us, if_pos hat]
  · rw [pk_un e]
    exact h x hx (by omega)
theorem ww_zin_f {n : Nat} {W X : Nat → Int32} {a : Nat} {Z : Nat → Int32} {r : Nat} (h : ww_zin n W X a Z r) (hat : ¬ ww_at W X a r) : ww_zin n W X a (upd Z r (nI 100000)) (r + 1) := by
  intro x hx hd
  by_cases e : x = r
  · subst e
    rw [pk_us, if_neg hat]
  · rw [pk_un e]
    exact h x hx (by omega)
theorem ww_zin_mh {n : Nat} {W C X : Nat → Int32} {a : Nat} {Z : Nat → Int32} {r : Nat} (h : ww_zin n W X a Z r) (hr : n ≤ r) : ww_mh n W C X a Z := by
  have e : ∀ x, x < n → ww_z Z x = if ww_at W X a x then 0 else 100000 := fun x hx => by
    unfold ww_z
    rw [h x hx (by omega), nI_clamp (by split <;> omega)]
  refine ⟨fun x hx => by rw [e x hx]; exact h x hx (by omega), fun x hx => by rw [e x hx]; split <;> omega, fun x hx hat => by rw [e x hx, if_pos hat], fun x hx hlt => ?_⟩
  rw [e x hx] at hlt
  by_cases c : ww_at W X a x
  · exact Or.inl c
  · rw [if_neg c] at hlt
    omega
theorem ww_upd_same {f : Nat → Int32} {k : Nat} : upd f k (f k) = f := by
  funext j
  by_cases e : j = k
  · subst e; rw [pk_us]
  · rw [pk_un e]
/-- a pass of the reference on its way -/
def ww_zt (n : Nat) (W C X : Nat → Int32) (a : Nat) (Z0 : Nat → Int32) (le : Int32) (Z : Nat → Int32) (r k : Nat) : Prop := ww_mh n W C X a Z ∧ ((le = nI 0 ∧ Z = Z0 ∧ ∀ x j, x < n → j < 4 * n → (x < r ∨ (x = r ∧ j < k)) → ww_z Z0 x ≤ ww_byS W C X (ww_z Z0) x (j / n) (j % n)) ∨ (le = nI 1 ∧ ww_sm Z 10 < ww_sm Z0 10))
theorem ww_by_lt {W C X : Nat → Int32} {G : Nat → Nat} {r p q : Nat} {v : Nat} (h : ww_byS W C X G r p q < v) (hv : v ≤ 100000) : ww_lk W X r p q ∧ ww_byS W C X G r p q = ww_cs C r p + G q := by
  unfold ww_byS at h ⊢
  by_cases c : ww_lk W X r p q ∧ G q < 100000
  · rw [if_pos c]
    exact ⟨c.1, rfl⟩
  · rw [if_neg c] at h
    omega
theorem ww_by_le (W C X : Nat → Int32) (G : Nat → Nat) (r p q : Nat) (hc : ww_lk W X r p q → ww_cs C r p ≤ 9) : ww_byS W C X G r p q ≤ 100009 := by
  unfold ww_byS
  by_cases c : ww_lk W X r p q ∧ G q < 100000
  · rw [if_pos c]
    have := hc c.1
    omega
  · rw [if_neg c]
    omega
theorem ww_zt_take {n : Nat} {W C X : Nat → Int32} {a : Nat} {Z0 Z : Nat → Int32} {le : Int32} {r k : Nat} (h : ww_zt n W C X a Z0 le Z r k) (hn : n ≤ 10) (hr : r < n) (hk : k < 4 * n) (hlt : ww_byS W C X (ww_z Z) r (k / n) (k % n) < ww_z Z r) : ww_zt n W C X a Z0 (nI 1) (upd Z r (nI (ww_byS W C X (ww_z Z) r (k / n) (k % n)))) r (k + 1) := by
  have b := h.1.2.1 r hr
  obtain ⟨hl, e⟩ := ww_by_lt hlt b
  have hp : k / n < 4 := Nat.div_lt_of_lt_mul (by rw [Nat.mul_comm]; exact hk)
  have hq : k % n < n := Nat.mod_lt _ (by omega)
  rw [e] at hlt ⊢
  have zr : ww_z (upd Z r (nI (ww_cs C r (k / n) + ww_z Z (k % n)))) r = ww_cs C r (k / n) + ww_z Z (k % n) := by
    unfold ww_z at b ⊢
    rw [pk_us, nI_clamp (by unfold ww_z at hlt; omega)]
  have zo : ∀ x, x ≠ r → x < n → ww_z (upd Z r (nI (ww_cs C r (k / n) + ww_z Z (k % n)))) x = ww_z Z x := fun x hx _ => by
    unfold ww_z
    rw [pk_un hx]
  refine ⟨⟨fun x hx => ?_, ww_hs_step h.1.2 hr hp hq hl hlt zr zo⟩, Or.inr ⟨rfl, ?_⟩⟩
  · by_cases e2 : x = r
    · subst e2
      rw [zr, pk_us]
    · rw [zo x e2 hx, pk_un e2]
      exact h.1.1 x hx
  · have s1 : ww_sm (upd Z r (nI (ww_cs C r (k / n) + ww_z Z (k % n)))) 10 < ww_sm Z 10 := ww_sm_lt (by rw [nI_clamp (by omega)]; exact hlt) 10 (by omega)
    rcases h.2 with ⟨-, e2, -⟩ | ⟨-, e2⟩
    · rw [← e2]; exact s1
    · omega
theorem ww_zt_leave {n : Nat} {W C X : Nat → Int32} {a : Nat} {Z0 Z : Nat → Int32} {le : Int32} {r k : Nat} (h : ww_zt n W C X a Z0 le Z r k) (hlt : ww_z Z r ≤ ww_byS W C X (ww_z Z) r (k / n) (k % n)) : ww_zt n W C X a Z0 le Z r (k + 1) := by
  refine ⟨h.1, ?_⟩
  rcases h.2 with ⟨h1, h2, h3⟩ | h1
  · refine Or.inl ⟨h1, h2, fun x j hx hj hd => ?_⟩
    by_cases e : x = r ∧ j = k
    · obtain ⟨rfl, rfl⟩ := e
      rw [← h2]; exact hlt
    · exact h3 x j hx hj (by omega)
  · exact Or.inr h1
theorem ww_zt_row {n : Nat} {W C X : Nat → Int32} {a : Nat} {Z0 Z : Nat → Int32} {le : Int32} {r k : Nat} (h : ww_zt n W C X a Z0 le Z r k) (hk : 4 * n ≤ k) : ww_zt n W C X a Z0 le Z (r + 1) 0 := by
  refine ⟨h.1, ?_⟩
  rcases h.2 with ⟨h1, h2, h3⟩ | h1
  · exact Or.inl ⟨h1, h2, fun x j hx hj hd => h3 x j hx hj (by omega)⟩
  · exact Or.inr h1
theorem ww_zt_one {n : Nat} {W C X : Nat → Int32} {a : Nat} {Z0 Z : Nat → Int32} {le : Int32} {r k : Nat} (h : ww_zt n W C X a Z0 le Z r k) (hl : ¬ le = 0) : le = nI 1 := by
  rcases h.2 with ⟨h1, -⟩ | ⟨h1, -⟩
  · exact absurd h1 (fun z => hl (by rw [z]; exact nI_0))
  · exact h1
theorem ww_zt_zero {n : Nat} {W C X : Nat → Int32} {a : Nat} {Z0 Z : Nat → Int32} {le : Int32} {r k : Nat} (h : ww_zt n W C X a Z0 le Z r k) (hl : le = 0) : le = nI 0 := by rw [hl, nI_0]
theorem ww_zt_sol {n : Nat} {W C X : Nat → Int32} {a : Nat} {Z : Nat → Int32} (h0 : 0 < n) (hm : ww_mh n W C X a Z) (hd : ∀ x j, x < n → j < 4 * n → ww_z Z x ≤ ww_byS W C X (ww_z Z) x (j / n) (j % n)) : ww_mz n W C X a Z := by
  refine ⟨hm.1, hm.2, fun r p q hr hp hq hl => ?_⟩
  have hj : n * p + q < 4 * n := by
    have : n * p + n ≤ n * 4 := by
      have := Nat.mul_le_mul_left n (show p + 1 ≤ 4 by omega)
      rw [Nat.mul_add, Nat.mul_one] at this
      exact this
    omega
  have z := hd r (n * p + q) hr hj
  rw [Nat.mul_add_div h0, Nat.mul_add_mod, Nat.div_eq_of_lt hq, Nat.mod_eq_of_lt hq, Nat.add_zero] at z
  unfold ww_byS at z
  by_cases c : ww_lk W X r p q ∧ ww_z Z q < 100000
  · rw [if_pos c] at z
    exact z
  · have b := hm.2.1 r hr
    have : 100000 ≤ ww_z Z q := Nat.le_of_not_lt (fun y => c ⟨hl, y⟩)
    omega
/-- the reference's distances are the distances -/
theorem ww_mz_D {n : Nat} {W C X : Nat → Int32} {a : Nat} {Z : Nat → Int32} (hN : ww_net W C X) (hn : n ≤ 10) (h : ww_mz n W C X a Z) {r : Nat} (hr : r < n) : (ww_z Z r < 100000 → ww_z Z r ≤ 90 ∧ ww_D n W C X a r = ww_z Z r) ∧ (100000 ≤ ww_z Z r → ww_D n W C X a r = 9999) := by
  have e := ww_D_eq hN hn (ww_sol_nrm hN hn h.2) hr
  refine ⟨fun z => ⟨ww_sol_90 hN hn h.2 hr z, ?_⟩, fun z => ?_⟩
  · rw [← e]
    exact if_pos z
  · rw [← e]
    exact if_neg (by omega)
theorem ww_mz_sol {n : Nat} {W C X : Nat → Int32} {a : Nat} {Z : Nat → Int32} (hN : ww_net W C X) (hn : n ≤ 10) (h : ww_mz n W C X a Z) : ww_sol 9999 n W C X a (ww_D n W C X a) := ww_D_sol (ww_sol_nrm hN hn h.2)
theorem ww_pk_cong2 {v u : Nat → Nat} : ∀ {K : Nat}, (∀ k, k < K → (v k < 9999 → u k = v k) ∧ (¬ v k < 9999 → ¬ u k < 9999)) → ww_pk v K = ww_pk u K := by
  intro K
  induction K with
  | zero => intro _; rfl
  | succ K ih =>
    intro h
    have hK := h K (by omega)
    unfold ww_pk
    rw [ih (fun k hk => h k (by omega))]
    cases hp : ww_pk u K with
    | none =>
      simp only
      by_cases c : v K < 9999
      · have := hK.1 c
        rw [if_pos c, if_pos (by omega)]
      · rw [if_neg c, if_neg (hK.2 c)]
    | some j =>
      have hj := ww_pk_lt hp
      have hJ := h j (by omega)
      have e1 : v j < 9999 := Decidable.byContradiction fun z => hJ.2 z hj.2
      have e2 := hJ.1 e1
      simp only
      by_cases c : v K < 9999
      · have e3 := hK.1 c
        rw [e2, e3]
      · have := hK.2 c
        rw [if_neg (by omega), if_neg (by omega)]
/-- by, as a value of a pair -/
def ww_bv (n : Nat) (W C X : Nat → Int32) (Z : Nat → Int32) (r k : Nat) : Nat := ww_byS W C X (ww_z Z) r (k / n) (k % n)
theorem ww_bv_lt {n : Nat} {W C X : Nat → Int32} {a : Nat} {Z : Nat → Int32} (hN : ww_net W C X) (hn : n ≤ 10) (h : ww_mz n W C X a Z) {r k : Nat} (hr : r < n) (hk : k < 4 * n) : ww_bv n W C X Z r k < 9999 ↔ ww_bv n W C X Z r k < 100000 := by
  have hp : k / n < 4 := Nat.div_lt_of_lt_mul (by rw [Nat.mul_comm]; exact hk)
  have hq : k % n < n := Nat.mod_lt _ (by omega)
  constructor
  · intro z; omega
  · intro z
    have z2 : ww_byS W C X (ww_z Z) r (k / n) (k % n) < 100000 := z
    obtain ⟨hl, e⟩ := ww_by_lt z2 (Nat.le_refl _)
    have c1 := ww_net_c hN hn hr hp hl.1.1
    have z3 : ww_z Z (k % n) < 100000 := by omega
    have := ((ww_mz_D hN hn h hq).1 z3).1
    unfold ww_bv
    omega
theorem ww_bv_best {n : Nat} {W C X : Nat → Int32} {a : Nat} {Z : Nat → Int32} (hN : ww_net W C X) (h0 : 0 < n) (hn : n ≤ 10) (h : ww_mz n W C X a Z) {r : Nat} (hr : r < n) : ww_pk (ww_bv n W C X Z r) (4 * n) = ww_best n W C X r a := by
  refine ww_pk_cong2 (fun k hk => ?_)
  have hp : k / n < 4 := Nat.div_lt_of_lt_mul (by rw [Nat.mul_comm]; exact hk)
  have hq : k % n < n := Nat.mod_lt _ h0
  have hD := ww_mz_D hN hn h hq
  unfold ww_bv ww_byS ww_val
  by_cases c : ww_lk W X r (k / n) (k % n)
  · by_cases c2 : ww_z Z (k % n) < 100000
    · rw [if_pos ⟨c, c2⟩, if_pos c, (hD.1 c2).2]
      exact ⟨fun _ => rfl, fun z => z⟩
    · rw [if_neg (fun z => c2 z.2), if_pos c, hD.2 (by omega)]
      exact ⟨fun z => by omega, fun _ => by omega⟩
  · rw [if_neg (fun z => c z.1), if_neg c]
    exact ⟨fun z => by omega, fun _ => by omega⟩
def ww_ep (n : Nat) : Option Nat → Int32
  | none => -1
  | some k => nI (k / n)
def ww_er (n : Nat) : Option Nat → Int32
  | none => -1
  | some k => nI (k % n)
/-- no way where it is far -/
theorem ww_way_far {n : Nat} {W C X : Nat → Int32} {a : Nat} {Z : Nat → Int32} (hN : ww_net W C X) (h0 : 0 < n) (hn : n ≤ 10) (h : ww_mz n W C X a Z) {r : Nat} (hr : r < n) (hf : 100000 ≤ ww_z Z r) : ww_portS n W C X r a = -1 ∧ ww_nextS n W C X r a = -1 := by
  have hb : ww_pk (ww_bv n W C X Z r) (4 * n) = none := by
    refine ww_pk_none (fun k hk => ?_)
    have hp : k / n < 4 := Nat.div_lt_of_lt_mul (by rw [Nat.mul_comm]; exact hk)
    have hq : k % n < n := Nat.mod_lt _ h0
    refine Nat.le_of_not_lt (fun z => ?_)
    have z2 : ww_byS W C X (ww_z Z) r (k / n) (k % n) < 9999 := z
    obtain ⟨hl, e⟩ := ww_by_lt z2 (by decide)
    have := h.2.2 r (k / n) (k % n) hr hp hq hl
    omega
  rw [ww_bv_best hN h0 hn h hr] at hb
  have hat : ¬ ww_at W X a r := fun z => by
    have := h.2.1.2.1 r hr z
    omega
  have e1 : ¬ a = r := fun z => hat ((ww_at_iff (by omega)).mpr (Or.inl z))
  have e2 : ¬ ww_dir W X r a ≠ -1 := fun z => hat ((ww_at_iff (by omega)).mpr (Or.inr z))
  unfold ww_portS ww_nextS
  rw [if_neg e1, if_neg e1, if_neg e2, if_neg e2, hb]
  exact ⟨rfl, rfl⟩
theorem ww_way_at {n : Nat} {W C X : Nat → Int32} {a r : Nat} (hr : r < 10) (hat : ww_at W X a r) : ww_portS n W C X r a = (if a = r then -1 else ww_dir W X r a) ∧ ww_nextS n W C X r a = -1 := by
  unfold ww_portS ww_nextS
  by_cases e : a = r
  · rw [if_pos e, if_pos e, if_pos e]
    exact ⟨rfl, rfl⟩
  · have h2 : ww_dir W X r a ≠ -1 := by
      rcases (ww_at_iff hr).mp hat with z | z
      · exact absurd z e
      · exact z
    rw [if_neg e, if_neg e, if_neg e, if_pos h2, if_pos h2]
    exact ⟨rfl, rfl⟩
theorem ww_way_best {n : Nat} {W C X : Nat → Int32} {a r : Nat} (hr : r < 10) (hat : ¬ ww_at W X a r) : ww_portS n W C X r a = ww_ep n (ww_best n W C X r a) ∧ ww_nextS n W C X r a = ww_er n (ww_best n W C X r a) := by
  have e1 : ¬ a = r := fun z => hat ((ww_at_iff hr).mpr (Or.inl z))
  have e2 : ¬ ww_dir W X r a ≠ -1 := fun z => hat ((ww_at_iff hr).mpr (Or.inr z))
  unfold ww_portS ww_nextS
  rw [if_neg e1, if_neg e1, if_neg e2, if_neg e2]
  unfold ww_ep ww_er
  exact ⟨rfl, rfl⟩
theorem ww_aim_ain {ov : Int32} {j : Nat} (hj : j < 2 ^ 31) : ww_aim ov (nI j) = ww_ain ov j := by
  unfold ww_aim ww_ain
  rw [nI_clamp hj]
theorem ww_next_rng {n : Nat} {W C X : Nat → Int32} {r a : Nat} (h0 : 0 < n) (hn : n ≤ 10) : ww_nextS n W C X r a = -1 ∨ ∃ j, j < n ∧ ww_nextS n W C X r a = nI j := by
  rcases ww_y_cases (W := W) (C := C) (X := X) (r := r) (a := a) h0 hn with ⟨-, -, e⟩ | ⟨p, hp, e1, e2, e3⟩ | ⟨p, q, hp, hq, e1, e2, e3⟩
  · exact Or.inl e
  · exact Or.inl e3
  · exact Or.inr ⟨q, hq, e3⟩
end
section
/-! the reference: reckon, choose, what is asked -/
theorem ww_pv_le2 {v : Nat → Nat} {K : Nat} : ww_pv 100000 v K ≤ 100000 := by
  unfold ww_pv
  cases h : ww_pk v K with
  | none => exact Nat.le_refl _
  | some j => have := (ww_pk_lt h).2; simp only; omega
theorem ww_dir_w {W X : Nat → Int32} {r t : Nat} {ov : Int32} (h : ¬ ov = 0) (hx : X t = 0) : ww_dir W X r (ww_ain ov t) = ww_po W r (nI t) := by
  unfold ww_dir ww_ain
  rw [if_neg h, if_pos ⟨by omega, by rw [show 10 + t - 10 = t by omega]; exact hx⟩, show 10 + t - 10 = t by omega]
theorem ww_m2_far {n : Nat} {W C X : Nat → Int32} {M r t : Nat} (h : ww_D n W C X t r = 9999) : ww_m2 n W C X M r t = M := if_neg (fun z => by omega)
theorem ww_m2_no {n : Nat} {W C X : Nat → Int32} {M r t : Nat} (h : ww_D n W C X t r ≤ M) : ww_m2 n W C X M r t = M := if_neg (fun z => by omega)
theorem ww_m2_yes {n : Nat} {W C X : Nat → Int32} {M r t : Nat} (h : ww_D n W C X t r < 9999) (h2 : M < ww_D n W C X t r) : ww_m2 n W C X M r t = ww_D n W C X t r := if_pos ⟨h, h2⟩
theorem ww_args {p : Program} {l : Launch} {e : Env} {R : Room} {s : State} {m : MethodId} {args : Array Value} {below : List Frame} {meth : Method} {c : Code} {H : Heap} {locs : List Loc} {cells slots : Nat} {Q : State → Prop} {pc : Nat} {ls : Array Slot} {rest : List Value} {x ov t : Int32} {q tt : Nat} (h1 : t = nI tt) (h2 : x = nI q) (k : W p l e R s m args below meth c H locs cells slots Q (F0 m pc ls (.int (nI tt) :: .int ov :: .int (nI q) :: rest))) : W p l e R s m args below meth c H locs cells slots Q (F0 m pc ls (.int t :: .int ov :: .int x :: rest)) := by
  rw [h1, h2]
  exact k
set_option maxHeartbeats 4000000 in
set_option maxRecDepth 100000 in
theorem metX2_reckon (l : Launch) (D : va_G) (a : Nat → Nat) (d : Nat → ClassId) (n : Nat) (fW fC fX fZ : Nat → Int32) (wp wr : Int32) (sz : Nat) (ov : Int32) (t : Nat) (hn0 : 1 ≤ n) (hn : n ≤ 10) (hN : ww_net fW fC fX) (ht0 : ov = 0 → t < n) (ht1 : ¬ ov = 0 → t < 16) : Met l yX2_reckon (ws_ yX2_reckon cX2_reckon 7 none) ({ frames := 2, cells := 0, slots := 0, locals := 47 }) (va_Pc [.ref (a 0), .int ov, .int (nI t)] (ww_C D (ww_tM d) (ww_M a d n fW fC fX fZ wp wr) sz)) (va_Qv (fun (u : (Nat → Int32)) => ww_mz n fW fC fX (ww_ain ov t) u) (fun (u : (Nat → Int32)) t => va_P D ww_cl (ww_M a d n fW fC fX u wp wr) t.heap) (va_A (ww_M a d n fW fC fX fZ wp wr) sz)) 0 0 (va_A (ww_M a d n fW fC fX fZ wp wr) sz) := by
  refine Met.ofW (cc := cX2_reckon) (maxL := 7) (ret := none) (by decide) rfl ?_
  intro pr e s m args below meth c s₁ B hml hv
  obtain ⟨rfl, hsz, hP, hK, hD0⟩ := hv
  have hx := B.exec
  have hb := B.bytes
  have hret := B.returns
  have hts := atoms_spec (ws := (ws_ yX2_reckon cX2_reckon 7 none)) B.pre
  have hts : ∀ w ∈ lw_all, w.before _ s = true := fun w h => hts w (List.mem_cons_of_mem _ h)
  have hown : s.vm.findClass RX2 = some m.cls := findClass_of_methodNamed B.named
  have hlocks := B.notSynchronized
  subst hsz
  have hD := hD0.self (sz := s.heap.size)
  generalize hAe : va_A (ww_M a d n fW fC fX fZ wp wr) s.heap.size = A at hD ⊢
  have hA : ∀ q : Nat, s.heap.size ≤ q → A q := fun q h => by rw [← hAe]; exact Or.inr h
  have hS : va_S A s.heap s.heap [] := va_S.rf
  have hP : va_P D ww_cl (ww_M a d n fW fC fX fZ wp wr) s.heap := hP
  have hl := lv_entry ([.ref (a 0), .int ov, .int (nI t)]) (n := 7) (Nat.le_of_ble_eq_true rfl)
  rw [lg_entry_eq]
  generalize (lg_sl ([.ref (a 0), .int ov, .int (nI t)]) ++ List.replicate (7 - (lg_sl ([.ref (a 0), .int ov, .int (nI t)])).length) Slot.unset).toArray = ls at hl ⊢
  have hl : lv_has ls 7 [(0, .ref (a 0)), (1, .int ov), (2, .int (nI t))] := hl
  have loopK : ∀ (Zz : Nat → Int32) (r : Nat), r < n → (∀ (le : Int32) (Z : Nat → Int32), ww_zt n fW fC fX (ww_ain ov t) Zz le Z (r + 1) 0 → ∀ (H : Heap) (locs : List Loc), va_P D ww_cl (ww_M a d n fW fC fX Z wp wr) H → va_D A (ww_M a d n fW fC fX Z wp wr) → va_S A s.heap H locs → ∀ (ls : Array Slot), lv_has ls 7 [(0, .ref (a 0)), (1, .int ov), (2, .int (nI t)), (3, .int le), (4, .int (nI r))] → W pr l e (headSpec (ws_ yX2_reckon cX2_reckon 7 none) ({ frames := 2, cells := 0, slots := 0, locals := 47 })).room s m ([.ref (a 0), .int ov, .int (nI t)] : List Value).toArray below meth c H locs 0 0 (MQ below (va_Qv (fun (u : (Nat → Int32)) => ww_mz n fW fC fX (ww_ain ov t) u) (fun (u : (Nat → Int32)) t => va_P D ww_cl (ww_M a d n fW fC fX u wp wr) t.heap) A) ([.ref (a 0), .int ov, .int (nI t)] : List Value).toArray s 0 0 A) (F0 m 153 ls [])) → ∀ (j k : Nat), k ≤ 4 * n → 4 * n + 1 ≤ k + j → ∀ (le : Int32) (Z : Nat → Int32), ww_zt n fW fC fX (ww_ain ov t) Zz le Z r k → ∀ (H : Heap) (locs : List Loc), va_P D ww_cl (ww_M a d n fW fC fX Z wp wr) H → va_D A (ww_M a d n fW fC fX Z wp wr) → va_S A s.heap H locs → ∀ (ls : Array Slot), lv_has ls 7 [(0, .ref (a 0)), (1, .int ov), (2, .int (nI t)), (3, .int le), (4, .int (nI r)), (5, .int (nI k))] → W pr l e (headSpec (ws_ yX2_reckon cX2_reckon 7 none) ({ frames := 2, cells := 0, slots := 0, locals := 47 })).room s m ([.ref (a 0), .int ov, .int (nI t)] : List Value).toArray below meth c H locs 0 0 (MQ below (va_Qv (fun (u : (Nat → Int32)) => ww_mz n fW fC fX (ww_ain ov t) u) (fun (u : (Nat → Int32)) t => va_P D ww_cl (ww_M a d n fW fC fX u wp wr) t.heap) A) ([.ref (a 0), .int ov, .int (nI t)] : List Value).toArray s 0 0 A) (F0 m 61 ls []) := by
    intro Zz r hr kont j
    induction j with
    | zero => intro k h1 h2; exact absurd h2 (by omega)
    | succ j ih =>
      intro k h1 h2 le Z hB H locs hP hD hS ls hl
      refine lv_iload hx hb dX2_reckon_61 (lv_at hl 5 rfl) ?_
      refine lv_iconst (v := nI 4) hx hb dX2_reckon_63 (by decide) ?_
      refine lv_aload_n hx hb dX2_reckon_64 rfl (lv_at hl 0 rfl) ?_
      refine ww_gM 0 q160 rfl hx hb hts hown hK hP dX2_reckon_65 ?_
      refine ww_imul hx hb dX2_reckon_68 ?_
      refine ww_icmp_ge (tgt := 153) hx hb dX2_reckon_69 (by decide) (fun c_69 => ?_) (fun c_69 => ?_)
      · exact kont le Z (ww_zt_row hB c_69) _ _ hP hD hS ls (lv_sub hl [0, 1, 2, 3, 4] rfl)
      · have hz9 := hB.1.2.1 r hr
        have hb9 := ww_by_le fW fC fX (ww_z Z) r (k / n) (k % n) (fun z => (ww_net_c hN hn hr (Nat.div_lt_of_lt_mul (by rw [Nat.mul_comm]; exact c_69)) z.1.1).2.1)
        refine lv_aload_n hx hb dX2_reckon_72 rfl (lv_at hl 0 rfl) ?_
        refine lv_iload hx hb dX2_reckon_73 (lv_at hl 4 rfl) ?_
        refine lv_iload hx hb dX2_reckon_75 (lv_at hl 5 rfl) ?_
        refine lv_aload_n hx hb dX2_reckon_77 rfl (lv_at hl 0 rfl) ?_
        refine ww_gM 0 q160 rfl hx hb hts hown hK hP dX2_reckon_78 ?_
        refine ww_idiv hx hb dX2_reckon_81 ?_
        refine lv_iload hx hb dX2_reckon_82 (lv_at hl 5 rfl) ?_
        refine lv_aload_n hx hb dX2_reckon_84 rfl (lv_at hl 0 rfl) ?_
        refine ww_gM 0 q160 rfl hx hb hts hown hK hP dX2_reckon_85 ?_
        refine ww_irem hx hb dX2_reckon_88 ?_
        refine ww_ro (As := [.int (nI r), .int (nI (k / n)), .int (nI (k % n))]) (rest := []) ⟨hx, hb, hml, hown, hts⟩ hK hP (metX2_by l D a d n fW fC fX Z wp wr (ww_z Z) r (k / n) (k % n) hn hN (fun x hx => ⟨hB.1.1 x hx, hB.1.2.1 x hx⟩) hr (Nat.div_lt_of_lt_mul (by rw [Nat.mul_comm]; exact c_69)) (Nat.mod_lt _ hn0)) rfl rfl (cwV 3 hts (lw_V q234 q236 qs15 q21 q237) rfl rfl rfl (by decide +kernel) ⟨Nat.le_of_ble_eq_true rfl, Nat.le_of_ble_eq_true rfl⟩) rfl rfl (Nat.le_of_ble_eq_true rfl) hl.1 ⟨Nat.zero_le _, Nat.zero_le _⟩ dX2_reckon_89 (fun r_89 h_89 => ?_)
        have h_89 : r_89 = nI (ww_byS fW fC fX (ww_z Z) r (k / n) (k % n)) := h_89
        subst h_89
        refine lv_istore (lv' := [(6, .int (nI (ww_byS fW fC fX (ww_z Z) r (k / n) (k % n)))), (0, .ref (a 0)), (1, .int ov), (2, .int (nI t)), (3, .int le), (4, .int (nI r)), (5, .int (nI k))]) hx hb dX2_reckon_92 hl (by decide) rfl (fun ls hl => ?_)
        refine lv_iload_n hx hb dX2_reckon_94 rfl (lv_at hl 4 rfl) ?_
        refine lv_if_ne (tgt := 110) hx hb dX2_reckon_95 (by decide) (fun c_95 => ?_) (fun c_95 => ?_)
        · refine lv_iconst (v := nI 1) hx hb dX2_reckon_110 (by decide) ?_
          refine lv_goto (tgt := 115) hx hb dX2_reckon_111 (by decide) ?_
          refine lv_istore_n (lv' := [(3, .int (nI 1)), (6, .int (nI (ww_byS fW fC fX (ww_z Z) r (k / n) (k % n)))), (0, .ref (a 0)), (1, .int ov), (2, .int (nI t)), (4, .int (nI r)), (5, .int (nI k))]) hx hb dX2_reckon_115 rfl hl (by decide) rfl (fun ls hl => ?_)
          refine lv_aload_n hx hb dX2_reckon_116 rfl (lv_at hl 2 rfl) ?_
          refine ww_gM 4 q164 rfl hx hb hts hown hK hP dX2_reckon_117 ?_
          refine lv_iload hx hb dX2_reckon_120 (lv_at hl 5 rfl) ?_
          refine lv_iload hx hb dX2_reckon_122 (lv_at hl 1 rfl) ?_
          refine lv_aload_n hx hb dX2_reckon_124 rfl (lv_at hl 2 rfl) ?_
          refine ww_gM 4 q164 rfl hx hb hts hown hK hP dX2_reckon_125 ?_
          refine lv_iload hx hb dX2_reckon_128 (lv_at hl 5 rfl) ?_
          refine ww_iald hx hb hK hP 4 3 rfl rfl dX2_reckon_130 ?_
          refine ww_top (y := nI (ww_z Z r)) (hB.1.1 r hr) ?_
          refine ww_icmp_ge (tgt := 139) hx hb dX2_reckon_131 (by decide) (fun c_131 => ?_) (fun c_131 => ?_)
          · refine lv_aload_n hx hb dX2_reckon_139 rfl (lv_at hl 2 rfl) ?_
            refine ww_gM 4 q164 rfl hx hb hts hown hK hP dX2_reckon_140 ?_
            refine lv_iload hx hb dX2_reckon_143 (lv_at hl 5 rfl) ?_
            refine ww_iald hx hb hK hP 4 3 rfl rfl dX2_reckon_145 ?_
            refine ww_iast hx hb hK hP hD hS 4 3 rfl rfl dX2_reckon_146 (fun H locs hP hD hS => ?_)
            have hP : va_P D ww_cl (ww_M a d n fW fC fX (upd Z r (Z r)) wp wr) H := hP
            have hD : va_D A (ww_M a d n fW fC fX (upd Z r (Z r)) wp wr) := hD
            refine lv_iinc (v := nI (k + 1)) (lv' := [(5, .int (nI (k + 1))), (3, .int (nI 1)), (6, .int (nI (ww_byS fW fC fX (ww_z Z) r (k / n) (k % n)))), (0, .ref (a 0)), (1, .int ov), (2, .int (nI t)), (4, .int (nI r))]) hx hb dX2_reckon_147 hl (k := 6) rfl (ww_inc k) (by decide) rfl (fun ls hl => ?_)
            refine lv_goto (tgt := 61) hx hb dX2_reckon_150 (by decide) ?_
            have hle := ww_zt_one hB c_95
            exact ih (k + 1) (by omega) (by omega) _ _ (by rw [ww_upd_same, ← hle]; exact ww_zt_leave hB c_131) _ _ hP hD hS ls (lv_sub hl [3, 4, 5, 1, 6, 0] rfl)
          · refine lv_iload hx hb dX2_reckon_134 (lv_at hl 1 rfl) ?_
            refine lv_goto (tgt := 146) hx hb dX2_reckon_136 (by decide) ?_
            refine ww_iast hx hb hK hP hD hS 4 3 rfl rfl dX2_reckon_146 (fun H locs hP hD hS => ?_)
            have hP : va_P D ww_cl (ww_M a d n fW fC fX (upd Z r (nI (ww_byS fW fC fX (ww_z Z) r (k / n) (k % n)))) wp wr) H := hP
            have hD : va_D A (ww_M a d n fW fC fX (upd Z r (nI (ww_byS fW fC fX (ww_z Z) r (k / n) (k % n)))) wp wr) := hD
            refine lv_iinc (v := nI (k + 1)) (lv' := [(5, .int (nI (k + 1))), (3, .int (nI 1)), (6, .int (nI (ww_byS fW fC fX (ww_z Z) r (k / n) (k % n)))), (0, .ref (a 0)), (1, .int ov), (2, .int (nI t)), (4, .int (nI r))]) hx hb dX2_reckon_147 hl (k := 6) rfl (ww_inc k) (by decide) rfl (fun ls hl => ?_)
            refine lv_goto (tgt := 61) hx hb dX2_reckon_150 (by decide) ?_
            have hle := ww_zt_one hB c_95
            exact ih (k + 1) (by omega) (by omega) _ _ (ww_zt_take hB hn hr c_69 c_131) _ _ hP hD hS ls (lv_sub hl [3, 4, 5, 1, 6, 0] rfl)
        · refine lv_iload hx hb dX2_reckon_98 (lv_at hl 0 rfl) ?_
          refine lv_aload_n hx hb dX2_reckon_100 rfl (lv_at hl 1 rfl) ?_
          refine ww_gM 4 q164 rfl hx hb hts hown hK hP dX2_reckon_101 ?_
          refine lv_iload hx hb dX2_reckon_104 (lv_at hl 5 rfl) ?_
          refine ww_iald hx hb hK hP 4 3 rfl rfl dX2_reckon_106 ?_
          refine ww_top (y := nI (ww_z Z r)) (hB.1.1 r hr) ?_
          refine ww_icmp_ge (tgt := 114) hx hb dX2_reckon_107 (by decide) (fun c_107 => ?_) (fun c_107 => ?_)
          · refine lv_iconst (v := nI 0) hx hb dX2_reckon_114 (by decide) ?_
            refine lv_istore_n (lv' := [(3, .int (nI 0)), (6, .int (nI (ww_byS fW fC fX (ww_z Z) r (k / n) (k % n)))), (0, .ref (a 0)), (1, .int ov), (2, .int (nI t)), (4, .int (nI r)), (5, .int (nI k))]) hx hb dX2_reckon_115 rfl hl (by decide) rfl (fun ls hl => ?_)
            refine lv_aload_n hx hb dX2_reckon_116 rfl (lv_at hl 2 rfl) ?_
            refine ww_gM 4 q164 rfl hx hb hts hown hK hP dX2_reckon_117 ?_
            refine lv_iload hx hb dX2_reckon_120 (lv_at hl 5 rfl) ?_
            refine lv_iload hx hb dX2_reckon_122 (lv_at hl 1 rfl) ?_
            refine lv_aload_n hx hb dX2_reckon_124 rfl (lv_at hl 2 rfl) ?_
            refine ww_gM 4 q164 rfl hx hb hts hown hK hP dX2_reckon_125 ?_
            refine lv_iload hx hb dX2_reckon_128 (lv_at hl 5 rfl) ?_
            refine ww_iald hx hb hK hP 4 3 rfl rfl dX2_reckon_130 ?_
            refine ww_top (y := nI (ww_z Z r)) (hB.1.1 r hr) ?_
            refine ww_icmp_ge (tgt := 139) hx hb dX2_reckon_131 (by decide) (fun c_131 => ?_) (fun c_131 => ?_)
            · refine lv_aload_n hx hb dX2_reckon_139 rfl (lv_at hl 2 rfl) ?_
              refine ww_gM 4 q164 rfl hx hb hts hown hK hP dX2_reckon_140 ?_
              refine lv_iload hx hb dX2_reckon_143 (lv_at hl 5 rfl) ?_
              refine ww_iald hx hb hK hP 4 3 rfl rfl dX2_reckon_145 ?_
              refine ww_iast hx hb hK hP hD hS 4 3 rfl rfl dX2_reckon_146 (fun H locs hP hD hS => ?_)
              have hP : va_P D ww_cl (ww_M a d n fW fC fX (upd Z r (Z r)) wp wr) H := hP
              have hD : va_D A (ww_M a d n fW fC fX (upd Z r (Z r)) wp wr) := hD
              refine lv_iinc (v := nI (k + 1)) (lv' := [(5, .int (nI (k + 1))), (3, .int (nI 0)), (6, .int (nI (ww_byS fW fC fX (ww_z Z) r (k / n) (k % n)))), (0, .ref (a 0)), (1, .int ov), (2, .int (nI t)), (4, .int (nI r))]) hx hb dX2_reckon_147 hl (k := 6) rfl (ww_inc k) (by decide) rfl (fun ls hl => ?_)
              refine lv_goto (tgt := 61) hx hb dX2_reckon_150 (by decide) ?_
              have hle := ww_zt_zero hB c_95
              exact ih (k + 1) (by omega) (by omega) _ _ (by rw [ww_upd_same, ← hle]; exact ww_zt_leave hB c_131) _ _ hP hD hS ls (lv_sub hl [3, 4, 5, 1, 6, 0] rfl)
            · exact absurd c_131 (by omega)
          · refine lv_iconst (v := nI 1) hx hb dX2_reckon_110 (by decide) ?_
            refine lv_goto (tgt := 115) hx hb dX2_reckon_111 (by decide) ?_
            refine lv_istore_n (lv' := [(3, .int (nI 1)), (6, .int (nI (ww_byS fW fC fX (ww_z Z) r (k / n) (k % n)))), (0, .ref (a 0)), (1, .int ov), (2, .int (nI t)), (4, .int (nI r)), (5, .int (nI k))]) hx hb dX2_reckon_115 rfl hl (by decide) rfl (fun ls hl => ?_)
            refine lv_aload_n hx hb dX2_reckon_116 rfl (lv_at hl 2 rfl) ?_
            refine ww_gM 4 q164 rfl hx hb hts hown hK hP dX2_reckon_117 ?_
            refine lv_iload hx hb dX2_reckon_120 (lv_at hl 5 rfl) ?_
            refine lv_iload hx hb dX2_reckon_122 (lv_at hl 1 rfl) ?_
            refine lv_aload_n hx hb dX2_reckon_124 rfl (lv_at hl 2 rfl) ?_
            refine ww_gM 4 q164 rfl hx hb hts hown hK hP dX2_reckon_125 ?_
            refine lv_iload hx hb dX2_reckon_128 (lv_at hl 5 rfl) ?_
            refine ww_iald hx hb hK hP 4 3 rfl rfl dX2_reckon_130 ?_
            refine ww_top (y := nI (ww_z Z r)) (hB.1.1 r hr) ?_
            refine ww_icmp_ge (tgt := 139) hx hb dX2_reckon_131 (by decide) (fun c_131 => ?_) (fun c_131 => ?_)
            · exact absurd c_131 (by omega)
            · refine lv_iload hx hb dX2_reckon_134 (lv_at hl 1 rfl) ?_
              refine lv_goto (tgt := 146) hx hb dX2_reckon_136 (by decide) ?_
              refine ww_iast hx hb hK hP hD hS 4 3 rfl rfl dX2_reckon_146 (fun H locs hP hD hS => ?_)
              have hP : va_P D ww_cl (ww_M a d n fW fC fX (upd Z r (nI (ww_byS fW fC fX (ww_z Z) r (k / n) (k % n)))) wp wr) H := hP
              have hD : va_D A (ww_M a d n fW fC fX (upd Z r (nI (ww_byS fW fC fX (ww_z Z) r (k / n) (k % n)))) wp wr) := hD
              refine lv_iinc (v := nI (k + 1)) (lv' := [(5, .int (nI (k + 1))), (3, .int (nI 1)), (6, .int (nI (ww_byS fW fC fX (ww_z Z) r (k / n) (k % n)))), (0, .ref (a 0)), (1, .int ov), (2, .int (nI t)), (4, .int (nI r))]) hx hb dX2_reckon_147 hl (k := 6) rfl (ww_inc k) (by decide) rfl (fun ls hl => ?_)
              refine lv_goto (tgt := 61) hx hb dX2_reckon_150 (by decide) ?_
              have hle := ww_zt_zero hB c_95
              exact ih (k + 1) (by omega) (by omega) _ _ (ww_zt_take hB hn hr c_69 c_131) _ _ hP hD hS ls (lv_sub hl [3, 4, 5, 1, 6, 0] rfl)
  have loopR : ∀ (Zz : Nat → Int32), (∀ (le : Int32) (Z : Nat → Int32), ww_zt n fW fC fX (ww_ain ov t) Zz le Z n 0 → ∀ (H : Heap) (locs : List Loc), va_P D ww_cl (ww_M a d n fW fC fX Z wp wr) H → va_D A (ww_M a d n fW fC fX Z wp wr) → va_S A s.heap H locs → ∀ (ls : Array Slot), lv_has ls 7 [(0, .ref (a 0)), (1, .int ov), (2, .int (nI t)), (3, .int le)] → W pr l e (headSpec (ws_ yX2_reckon cX2_reckon 7 none) ({ frames := 2, cells := 0, slots := 0, locals := 47 })).room s m ([.ref (a 0), .int ov, .int (nI t)] : List Value).toArray below meth c H locs 0 0 (MQ below (va_Qv (fun (u : (Nat → Int32)) => ww_mz n fW fC fX (ww_ain ov t) u) (fun (u : (Nat → Int32)) t => va_P D ww_cl (ww_M a d n fW fC fX u wp wr) t.heap) A) ([.ref (a 0), .int ov, .int (nI t)] : List Value).toArray s 0 0 A) (F0 m 159 ls [])) → ∀ (j r : Nat), r ≤ n → n + 1 ≤ r + j → ∀ (le : Int32) (Z : Nat → Int32), ww_zt n fW fC fX (ww_ain ov t) Zz le Z r 0 → ∀ (H : Heap) (locs : List Loc), va_P D ww_cl (ww_M a d n fW fC fX Z wp wr) H → va_D A (ww_M a d n fW fC fX Z wp wr) → va_S A s.heap H locs → ∀ (ls : Array Slot), lv_has ls 7 [(0, .ref (a 0)), (1, .int ov), (2, .int (nI t)), (3, .int le), (4, .int (nI r))] → W pr l e (headSpec (ws_ yX2_reckon cX2_reckon 7 none) ({ frames := 2, cells := 0, slots := 0, locals := 47 })).room s m ([.ref (a 0), .int ov, .int (nI t)] : List Value).toArray below meth c H locs 0 0 (MQ below (va_Qv (fun (u : (Nat → Int32)) => ww_mz n fW fC fX (ww_ain ov t) u) (fun (u : (Nat → Int32)) t => va_P D ww_cl (ww_M a d n fW fC fX u wp wr) t.heap) A) ([.ref (a 0), .int ov, .int (nI t)] : List Value).toArray s 0 0 A) (F0 m 49 ls []) := by
    intro Zz kont j
    induction j with
    | zero => intro r h1 h2; exact absurd h2 (by omega)
    | succ j ih =>
      intro r h1 h2 le Z hB H locs hP hD hS ls hl
      refine lv_iload hx hb dX2_reckon_49 (lv_at hl 4 rfl) ?_
      refine lv_aload_n hx hb dX2_reckon_51 rfl (lv_at hl 0 rfl) ?_
      refine ww_gM 0 q160 rfl hx hb hts hown hK hP dX2_reckon_52 ?_
      refine ww_icmp_ge (tgt := 159) hx hb dX2_reckon_55 (by decide) (fun c_55 => ?_) (fun c_55 => ?_)
      · have er : r = n := by omega
        rw [er] at hB
        exact kont le Z hB _ _ hP hD hS ls (lv_sub hl [0, 1, 2, 3] rfl)
      · have k153 : ∀ (le : Int32) (Z : Nat → Int32), ww_zt n fW fC fX (ww_ain ov t) Zz le Z (r + 1) 0 → ∀ (H : Heap) (locs : List Loc), va_P D ww_cl (ww_M a d n fW fC fX Z wp wr) H → va_D A (ww_M a d n fW fC fX Z wp wr) → va_S A s.heap H locs → ∀ (ls : Array Slot), lv_has ls 7 [(0, .ref (a 0)), (1, .int ov), (2, .int (nI t)), (3, .int le), (4, .int (nI r))] → W pr l e (headSpec (ws_ yX2_reckon cX2_reckon 7 none) ({ frames := 2, cells := 0, slots := 0, locals := 47 })).room s m ([.ref (a 0), .int ov, .int (nI t)] : List Value).toArray below meth c H locs 0 0 (MQ below (va_Qv (fun (u : (Nat → Int32)) => ww_mz n fW fC fX (ww_ain ov t) u) (fun (u : (Nat → Int32)) t => va_P D ww_cl (ww_M a d n fW fC fX u wp wr) t.heap) A) ([.ref (a 0), .int ov, .int (nI t)] : List Value).toArray s 0 0 A) (F0 m 153 ls []) := by
          intro le Z hB H locs hP hD hS ls hl
          refine lv_iinc (v := nI (r + 1)) (lv' := [(4, .int (nI (r + 1))), (0, .ref (a 0)), (1, .int ov), (2, .int (nI t)), (3, .int le)]) hx hb dX2_reckon_153 hl (k := 4) rfl (ww_inc r) (by decide) rfl (fun ls hl => ?_)
          refine lv_goto (tgt := 49) hx hb dX2_reckon_156 (by decide) ?_
          exact ih (r + 1) (by omega) (by omega) le Z hB _ _ hP hD hS ls (lv_sub hl [1, 2, 3, 4, 0] rfl)
        refine lv_iconst (v := nI 0) hx hb dX2_reckon_58 (by decide) ?_
        refine lv_istore (lv' := [(5, .int (nI 0)), (0, .ref (a 0)), (1, .int ov), (2, .int (nI t)), (3, .int le), (4, .int (nI r))]) hx hb dX2_reckon_59 hl (by decide) rfl (fun ls hl => ?_)
        exact loopK Zz r c_55 k153 (4 * n + 1) 0 (by omega) (by omega) le Z hB _ _ hP hD hS ls (lv_sub hl [1, 2, 3, 4, 5, 0] rfl)
  have done : ∀ (Z : Nat → Int32), ww_mz n fW fC fX (ww_ain ov t) Z → ∀ (H : Heap) (locs : List Loc), va_P D ww_cl (ww_M a d n fW fC fX Z wp wr) H → va_D A (ww_M a d n fW fC fX Z wp wr) → va_S A s.heap H locs → ∀ (ls : Array Slot), lv_has ls 7 [(0, .ref (a 0)), (1, .int ov), (2, .int (nI t)), (3, .int (nI 0))] → W pr l e (headSpec (ws_ yX2_reckon cX2_reckon 7 none) ({ frames := 2, cells := 0, slots := 0, locals := 47 })).room s m ([.ref (a 0), .int ov, .int (nI t)] : List Value).toArray below meth c H locs 0 0 (MQ below (va_Qv (fun (u : (Nat → Int32)) => ww_mz n fW fC fX (ww_ain ov t) u) (fun (u : (Nat → Int32)) t => va_P D ww_cl (ww_M a d n fW fC fX u wp wr) t.heap) A) ([.ref (a 0), .int ov, .int (nI t)] : List Value).toArray s 0 0 A) (F0 m 40 ls []) := by
    intro Z hZ H locs hP hD hS ls hl
    refine lv_iload_n hx hb dX2_reckon_40 rfl (lv_at hl 3 rfl) ?_
    refine ww_if_eq (tgt := 162) hx hb dX2_reckon_41 (by decide) (fun c_41 => ?_) (fun c_41 => ?_)
    · exact W.vret hx hb hret (fun t9 ht9 hW9 => ⟨⟨Z, rfl, hZ, by show va_P _ _ _ t9.heap; rw [ht9]; exact hP⟩, hS.F ht9⟩) hS.2.2 dX2_reckon_162
    · exact absurd rfl c_41
  have loopW : ∀ (j : Nat) (Z : Nat → Int32), ww_mh n fW fC fX (ww_ain ov t) Z → ww_sm Z 10 < j → ∀ (H : Heap) (locs : List Loc), va_P D ww_cl (ww_M a d n fW fC fX Z wp wr) H → va_D A (ww_M a d n fW fC fX Z wp wr) → va_S A s.heap H locs → ∀ (ls : Array Slot), lv_has ls 7 [(0, .ref (a 0)), (1, .int ov), (2, .int (nI t)), (3, .int (nI 1))] → W pr l e (headSpec (ws_ yX2_reckon cX2_reckon 7 none) ({ frames := 2, cells := 0, slots := 0, locals := 47 })).room s m ([.ref (a 0), .int ov, .int (nI t)] : List Value).toArray below meth c H locs 0 0 (MQ below (va_Qv (fun (u : (Nat → Int32)) => ww_mz n fW fC fX (ww_ain ov t) u) (fun (u : (Nat → Int32)) t => va_P D ww_cl (ww_M a d n fW fC fX u wp wr) t.heap) A) ([.ref (a 0), .int ov, .int (nI t)] : List Value).toArray s 0 0 A) (F0 m 40 ls []) := by
    intro j
    induction j with
    | zero => intro Z hZ h2; exact absurd h2 (by omega)
    | succ j ih =>
      intro Z hZ h2 H locs hP hD hS ls hl
      refine lv_iload_n hx hb dX2_reckon_40 rfl (lv_at hl 3 rfl) ?_
      refine ww_if_eq (tgt := 162) hx hb dX2_reckon_41 (by decide) (fun c_41 => ?_) (fun c_41 => ?_)
      · exact absurd c_41 (by decide)
      · have k159 : ∀ (le : Int32) (Z2 : Nat → Int32), ww_zt n fW fC fX (ww_ain ov t) Z le Z2 n 0 → ∀ (H : Heap) (locs : List Loc), va_P D ww_cl (ww_M a d n fW fC fX Z2 wp wr) H → va_D A (ww_M a d n fW fC fX Z2 wp wr) → va_S A s.heap H locs → ∀ (ls : Array Slot), lv_has ls 7 [(0, .ref (a 0)), (1, .int ov), (2, .int (nI t)), (3, .int le)] → W pr l e (headSpec (ws_ yX2_reckon cX2_reckon 7 none) ({ frames := 2, cells := 0, slots := 0, locals := 47 })).room s m ([.ref (a 0), .int ov, .int (nI t)] : List Value).toArray below meth c H locs 0 0 (MQ below (va_Qv (fun (u : (Nat → Int32)) => ww_mz n fW fC fX (ww_ain ov t) u) (fun (u : (Nat → Int32)) t => va_P D ww_cl (ww_M a d n fW fC fX u wp wr) t.heap) A) ([.ref (a 0), .int ov, .int (nI t)] : List Value).toArray s 0 0 A) (F0 m 159 ls []) := by
          intro le Z2 hB H locs hP hD hS ls hl
          refine lv_goto (tgt := 40) hx hb dX2_reckon_159 (by decide) ?_
          rcases hB.2 with ⟨rfl, z2, z⟩ | ⟨rfl, z⟩
          · exact done Z2 (ww_zt_sol hn0 hB.1 (fun x j hx hj => by rw [z2]; exact z x j hx hj (Or.inl hx))) _ _ hP hD hS ls (lv_sub hl [0, 1, 2, 3] rfl)
          · exact ih Z2 hB.1 (by omega) _ _ hP hD hS ls (lv_sub hl [0, 1, 2, 3] rfl)
        refine lv_iconst (v := nI 0) hx hb dX2_reckon_44 (by decide) ?_
        refine lv_istore_n (lv' := [(3, .int (nI 0)), (0, .ref (a 0)), (1, .int ov), (2, .int (nI t))]) hx hb dX2_reckon_45 rfl hl (by decide) rfl (fun ls hl => ?_)
        refine lv_iconst (v := nI 0) hx hb dX2_reckon_46 (by decide) ?_
        refine lv_istore (lv' := [(4, .int (nI 0)), (3, .int (nI 0)), (0, .ref (a 0)), (1, .int ov), (2, .int (nI t))]) hx hb dX2_reckon_47 hl (by decide) rfl (fun ls hl => ?_)
        exact loopR Z k159 (n + 1) 0 (by omega) (by omega) (nI 0) Z ⟨hZ, Or.inl ⟨rfl, rfl, fun x j _ _ z => by omega⟩⟩ _ _ hP hD hS ls (lv_sub hl [2, 3, 4, 1, 0] rfl)
  have loopI : ∀ (j r : Nat), r ≤ n → n + 1 ≤ r + j → ∀ (Z : Nat → Int32), ww_zin n fW fX (ww_ain ov t) Z r → ∀ (H : Heap) (locs : List Loc), va_P D ww_cl (ww_M a d n fW fC fX Z wp wr) H → va_D A (ww_M a d n fW fC fX Z wp wr) → va_S A s.heap H locs → ∀ (ls : Array Slot), lv_has ls 7 [(0, .ref (a 0)), (1, .int ov), (2, .int (nI t)), (3, .int (nI r))] → W pr l e (headSpec (ws_ yX2_reckon cX2_reckon 7 none) ({ frames := 2, cells := 0, slots := 0, locals := 47 })).room s m ([.ref (a 0), .int ov, .int (nI t)] : List Value).toArray below meth c H locs 0 0 (MQ below (va_Qv (fun (u : (Nat → Int32)) => ww_mz n fW fC fX (ww_ain ov t) u) (fun (u : (Nat → Int32)) t => va_P D ww_cl (ww_M a d n fW fC fX u wp wr) t.heap) A) ([.ref (a 0), .int ov, .int (nI t)] : List Value).toArray s 0 0 A) (F0 m 2 ls []) := by
    intro j
    induction j with
    | zero => intro r h1 h2; exact absurd h2 (by omega)
    | succ j ih =>
      intro r h1 h2 Z hi H locs hP hD hS ls hl
      refine lv_iload_n hx hb dX2_reckon_2 rfl (lv_at hl 3 rfl) ?_
      refine lv_aload_n hx hb dX2_reckon_3 rfl (lv_at hl 0 rfl) ?_
      refine ww_gM 0 q160 rfl hx hb hts hown hK hP dX2_reckon_4 ?_
      refine ww_icmp_ge (tgt := 38) hx hb dX2_reckon_7 (by decide) (fun c_7 => ?_) (fun c_7 => ?_)
      · refine lv_iconst (v := nI 1) hx hb dX2_reckon_38 (by decide) ?_
        refine lv_istore_n (lv' := [(3, .int (nI 1)), (0, .ref (a 0)), (1, .int ov), (2, .int (nI t))]) hx hb dX2_reckon_39 rfl hl (by decide) rfl (fun ls hl => ?_)
        have hm := ww_zin_mh (C := fC) hi c_7
        exact loopW (ww_sm Z 10 + 1) Z hm (by omega) _ _ hP hD hS ls (lv_sub hl [1, 2, 3, 0] rfl)
      · refine lv_aload_n hx hb dX2_reckon_10 rfl (lv_at hl 0 rfl) ?_
        refine ww_gM 4 q164 rfl hx hb hts hown hK hP dX2_reckon_11 ?_
        refine lv_iload_n hx hb dX2_reckon_14 rfl (lv_at hl 3 rfl) ?_
        refine lv_aload_n hx hb dX2_reckon_15 rfl (lv_at hl 0 rfl) ?_
        refine lv_iload_n hx hb dX2_reckon_16 rfl (lv_at hl 3 rfl) ?_
        refine lv_iload_n hx hb dX2_reckon_17 rfl (lv_at hl 1 rfl) ?_
        refine lv_iload_n hx hb dX2_reckon_18 rfl (lv_at hl 2 rfl) ?_
        refine ww_ro (As := [.int (nI r), .int ov, .int (nI t)]) (rest := [.int (nI r), .ref (a 4)]) ⟨hx, hb, hml, hown, hts⟩ hK hP (metX2_isAt l D a d n fW fC fX Z wp wr r ov t (by omega) (fun z => Nat.lt_of_lt_of_le (ht0 z) hn) ht1) rfl rfl (cwV 3 hts (lw_V q229 q231 qs14 q21 q232) rfl rfl rfl (by decide +kernel) ⟨Nat.le_of_ble_eq_true rfl, Nat.le_of_ble_eq_true rfl⟩) rfl rfl (Nat.le_of_ble_eq_true rfl) hl.1 ⟨Nat.zero_le _, Nat.zero_le _⟩ dX2_reckon_19 (fun r_19 h_19 => ?_)
        have h_19 : r_19 = ww_b2 (ww_at fW fX (ww_ain ov t) r) := h_19
        subst h_19
        refine ww_if_eqB (tgt := 29) hx hb dX2_reckon_22 (by decide) (fun c_22 => ?_) (fun c_22 => ?_)
        · refine lv_ldc (v := nI 100000) hx hb hown (hts _ q233) dX2_reckon_29 ?_
          refine ww_iast hx hb hK hP hD hS 4 3 rfl rfl dX2_reckon_31 (fun H locs hP hD hS => ?_)
          have hP : va_P D ww_cl (ww_M a d n fW fC fX (upd Z r (nI 100000)) wp wr) H := hP
          have hD : va_D A (ww_M a d n fW fC fX (upd Z r (nI 100000)) wp wr) := hD
          refine lv_iinc (v := nI (r + 1)) (lv' := [(3, .int (nI (r + 1))), (0, .ref (a 0)), (1, .int ov), (2, .int (nI t))]) hx hb dX2_reckon_32 hl (k := 3) rfl (ww_inc r) (by decide) rfl (fun ls hl => ?_)
          refine lv_goto (tgt := 2) hx hb dX2_reckon_35 (by decide) ?_
          exact ih (r + 1) (by omega) (by omega) _ (ww_zin_f hi c_22) _ _ hP hD hS ls (lv_sub hl [1, 2, 3, 0] rfl)
        · refine lv_iconst (v := nI 0) hx hb dX2_reckon_25 (by decide) ?_
          refine lv_goto (tgt := 31) hx hb dX2_reckon_26 (by decide) ?_
          refine ww_iast hx hb hK hP hD hS 4 3 rfl rfl dX2_reckon_31 (fun H locs hP hD hS => ?_)
          have hP : va_P D ww_cl (ww_M a d n fW fC fX (upd Z r (nI 0)) wp wr) H := hP
          have hD : va_D A (ww_M a d n fW fC fX (upd Z r (nI 0)) wp wr) := hD
          refine lv_iinc (v := nI (r + 1)) (lv' := [(3, .int (nI (r + 1))), (0, .ref (a 0)), (1, .int ov), (2, .int (nI t))]) hx hb dX2_reckon_32 hl (k := 3) rfl (ww_inc r) (by decide) rfl (fun ls hl => ?_)
          refine lv_goto (tgt := 2) hx hb dX2_reckon_35 (by decide) ?_
          exact ih (r + 1) (by omega) (by omega) _ (ww_zin_t hi c_22) _ _ hP hD hS ls (lv_sub hl [1, 2, 3, 0] rfl)
  refine lv_iconst (v := nI 0) hx hb dX2_reckon_0 (by decide) ?_
  refine lv_istore_n (lv' := [(3, .int (nI 0)), (0, .ref (a 0)), (1, .int ov), (2, .int (nI t))]) hx hb dX2_reckon_1 rfl hl (by decide) rfl (fun ls hl => ?_)
  exact loopI (n + 1) 0 (by omega) (by omega) fZ (fun x _ z => by omega) _ _ hP hD hS ls (lv_sub hl [1, 2, 3, 0] rfl)
set_option maxHeartbeats 4000000 in
set_option maxRecDepth 100000 in
theorem metX2_choose (l : Launch) (D : va_G) (a : Nat → Nat) (d : Nat → ClassId) (n : Nat) (fW fC fX fZ : Nat → Int32) (wp wr : Int32) (sz : Nat) (r : Nat) (ov : Int32) (t : Nat) (hn0 : 1 ≤ n) (hn : n ≤ 10) (hN : ww_net fW fC fX) (ht0 : ov = 0 → t < n) (ht1 : ¬ ov = 0 → t < 16) (hr : r < n) (hZ : ww_mz n fW fC fX (ww_ain ov t) fZ) : Met l yX2_choose (ws_ yX2_choose cX2_choose 7 none) ({ frames := 2, cells := 0, slots := 0, locals := 47 }) (va_Pc [.ref (a 0), .int (nI r), .int ov, .int (nI t)] (ww_C D (ww_tM d) (ww_M a d n fW fC fX fZ wp wr) sz)) (va_Qv (fun (u : Int32 × Int32) => u = (ww_portS n fW fC fX r (ww_ain ov t), ww_nextS n fW fC fX r (ww_ain ov t))) (fun (u : Int32 × Int32) t => va_P D ww_cl (ww_M a d n fW fC fX fZ u.1 u.2) t.heap) (va_A (ww_M a d n fW fC fX fZ wp wr) sz)) 0 0 (va_A (ww_M a d n fW fC fX fZ wp wr) sz) := by
  refine Met.ofW (cc := cX2_choose) (maxL := 7) (ret := none) (by decide) rfl ?_
  intro pr e s m args below meth c s₁ B hml hv
  obtain ⟨rfl, hsz, hP, hK, hD0⟩ := hv
  have hx := B.exec
  have hb := B.bytes
  have hret := B.returns
  have hts := atoms_spec (ws := (ws_ yX2_choose cX2_choose 7 none)) B.pre
  have hts : ∀ w ∈ lw_all, w.before _ s = true := fun w h => hts w (List.mem_cons_of_mem _ h)
  have hown : s.vm.findClass RX2 = some m.cls := findClass_of_methodNamed B.named
  have hlocks := B.notSynchronized
  subst hsz
  have hD := hD0.self (sz := s.heap.size)
  generalize hAe : va_A (ww_M a d n fW fC fX fZ wp wr) s.heap.size = A at hD ⊢
  have hA : ∀ q : Nat, s.heap.size ≤ q → A q := fun q h => by rw [← hAe]; exact Or.inr h
  have hS : va_S A s.heap s.heap [] := va_S.rf
  have hP : va_P D ww_cl (ww_M a d n fW fC fX fZ wp wr) s.heap := hP
  have hl := lv_entry ([.ref (a 0), .int (nI r), .int ov, .int (nI t)]) (n := 7) (Nat.le_of_ble_eq_true rfl)
  rw [lg_entry_eq]
  generalize (lg_sl ([.ref (a 0), .int (nI r), .int ov, .int (nI t)]) ++ List.replicate (7 - (lg_sl ([.ref (a 0), .int (nI r), .int ov, .int (nI t)])).length) Slot.unset).toArray = ls at hl ⊢
  have hl : lv_has ls 7 [(0, .ref (a 0)), (1, .int (nI r)), (2, .int ov), (3, .int (nI t))] := hl
  have loopK : ¬ ww_at fW fX (ww_ain ov t) r → ∀ (j k : Nat), k ≤ 4 * n → 4 * n + 1 ≤ k + j → ∀ (lo : Nat) (x y : Int32), lo = ww_pv 100000 (ww_bv n fW fC fX fZ r) k → x = ww_ep n (ww_pk (ww_bv n fW fC fX fZ r) k) → y = ww_er n (ww_pk (ww_bv n fW fC fX fZ r) k) → ∀ (H : Heap) (locs : List Loc), va_P D ww_cl (ww_M a d n fW fC fX fZ x y) H → va_D A (ww_M a d n fW fC fX fZ x y) → va_S A s.heap H locs → ∀ (ls : Array Slot), lv_has ls 7 [(0, .ref (a 0)), (1, .int (nI r)), (4, .int (nI lo)), (5, .int (nI k))] → W pr l e (headSpec (ws_ yX2_choose cX2_choose 7 none) ({ frames := 2, cells := 0, slots := 0, locals := 47 })).room s m ([.ref (a 0), .int (nI r), .int ov, .int (nI t)] : List Value).toArray below meth c H locs 0 0 (MQ below (va_Qv (fun (u : Int32 × Int32) => u = (ww_portS n fW fC fX r (ww_ain ov t), ww_nextS n fW fC fX r (ww_ain ov t))) (fun (u : Int32 × Int32) t => va_P D ww_cl (ww_M a d n fW fC fX fZ u.1 u.2) t.heap) A) ([.ref (a 0), .int (nI r), .int ov, .int (nI t)] : List Value).toArray s 0 0 A) (F0 m 58 ls []) := by
    intro hat j
    induction j with
    | zero => intro k h1 h2; exact absurd h2 (by omega)
    | succ j ih =>
      intro k h1 h2 lo x y elo ex ey H locs hP hD hS ls hl
      refine lv_iload hx hb dX2_choose_58 (lv_at hl 3 rfl) ?_
      refine lv_iconst (v := nI 4) hx hb dX2_choose_60 (by decide) ?_
      refine lv_aload_n hx hb dX2_choose_61 rfl (lv_at hl 0 rfl) ?_
      refine ww_gM 0 q160 rfl hx hb hts hown hK hP dX2_choose_62 ?_
      refine ww_imul hx hb dX2_choose_65 ?_
      refine ww_icmp_ge (tgt := 132) hx hb dX2_choose_66 (by decide) (fun c_66 => ?_) (fun c_66 => ?_)
      · exact W.vret hx hb hret (fun t9 ht9 hW9 => ⟨⟨(x, y), rfl, (by have e4 : k = 4 * n := (by omega); subst e4; rw [ww_bv_best hN hn0 hn hZ hr] at ex ey; show (x, y) = _; rw [(ww_way_best (by omega) hat).1, (ww_way_best (by omega) hat).2, ex, ey]), by show va_P _ _ _ t9.heap; rw [ht9]; exact hP⟩, hS.F ht9⟩) hS.2.2 dX2_choose_132
      · have hI9 := ww_bv_lt hN hn hZ hr c_66
        have hlo : lo ≤ 100000 := by rw [elo]; exact ww_pv_le2
        have hb9 := ww_by_le fW fC fX (ww_z fZ) r (k / n) (k % n) (fun z => (ww_net_c hN hn hr (Nat.div_lt_of_lt_mul (by rw [Nat.mul_comm]; exact c_66)) z.1.1).2.1)
        refine lv_aload_n hx hb dX2_choose_69 rfl (lv_at hl 0 rfl) ?_
        refine lv_iload_n hx hb dX2_choose_70 rfl (lv_at hl 1 rfl) ?_
        refine lv_iload hx hb dX2_choose_71 (lv_at hl 3 rfl) ?_
        refine lv_aload_n hx hb dX2_choose_73 rfl (lv_at hl 0 rfl) ?_
        refine ww_gM 0 q160 rfl hx hb hts hown hK hP dX2_choose_74 ?_
        refine ww_idiv hx hb dX2_choose_77 ?_
        refine lv_iload hx hb dX2_choose_78 (lv_at hl 3 rfl) ?_
        refine lv_aload_n hx hb dX2_choose_80 rfl (lv_at hl 0 rfl) ?_
        refine ww_gM 0 q160 rfl hx hb hts hown hK hP dX2_choose_81 ?_
        refine ww_irem hx hb dX2_choose_84 ?_
        refine ww_ro (As := [.int (nI r), .int (nI (k / n)), .int (nI (k % n))]) (rest := []) ⟨hx, hb, hml, hown, hts⟩ hK hP (metX2_by l D a d n fW fC fX fZ x y (ww_z fZ) r (k / n) (k % n) hn hN (fun x hx => ⟨hZ.1 x hx, hZ.2.1.1 x hx⟩) hr (Nat.div_lt_of_lt_mul (by rw [Nat.mul_comm]; exact c_66)) (Nat.mod_lt _ hn0)) rfl rfl (cwV 3 hts (lw_V q234 q236 qs15 q21 q237) rfl rfl rfl (by decide +kernel) ⟨Nat.le_of_ble_eq_true rfl, Nat.le_of_ble_eq_true rfl⟩) rfl rfl (Nat.le_of_ble_eq_true rfl) hl.1 ⟨Nat.zero_le _, Nat.zero_le _⟩ dX2_choose_85 (fun r_85 h_85 => ?_)
        have h_85 : r_85 = nI (ww_byS fW fC fX (ww_z fZ) r (k / n) (k % n)) := h_85
        subst h_85
        refine lv_istore (lv' := [(6, .int (nI (ww_byS fW fC fX (ww_z fZ) r (k / n) (k % n)))), (0, .ref (a 0)), (1, .int (nI r)), (4, .int (nI lo)), (5, .int (nI k))]) hx hb dX2_choose_88 hl (by decide) rfl (fun ls hl => ?_)
        refine lv_iload hx hb dX2_choose_90 (lv_at hl 0 rfl) ?_
        refine lv_iload hx hb dX2_choose_92 (lv_at hl 3 rfl) ?_
        refine ww_icmp_lt (tgt := 100) hx hb dX2_choose_94 (by decide) (fun c_94 => ?_) (fun c_94 => ?_)
        · refine lv_iload hx hb dX2_choose_100 (lv_at hl 0 rfl) ?_
          refine lv_istore (lv' := [(4, .int (nI (ww_byS fW fC fX (ww_z fZ) r (k / n) (k % n)))), (6, .int (nI (ww_byS fW fC fX (ww_z fZ) r (k / n) (k % n)))), (0, .ref (a 0)), (1, .int (nI r)), (5, .int (nI k))]) hx hb dX2_choose_102 hl (by decide) rfl (fun ls hl => ?_)
          refine lv_aload_n hx hb dX2_choose_104 rfl (lv_at hl 2 rfl) ?_
          refine lv_iload hx hb dX2_choose_105 (lv_at hl 4 rfl) ?_
          refine lv_aload_n hx hb dX2_choose_107 rfl (lv_at hl 2 rfl) ?_
          refine ww_gM 0 q160 rfl hx hb hts hown hK hP dX2_choose_108 ?_
          refine ww_idiv hx hb dX2_choose_111 ?_
          refine ww_pM 5 q165 hx hb hts hown hK hP hD hS (ty := .int) (by decide +kernel) rfl rfl dX2_choose_112 (fun H locs hP hD hS => ?_)
          have hP : va_P D ww_cl (ww_M a d n fW fC fX fZ (nI (k / n)) y) H := hP
          have hD : va_D A (ww_M a d n fW fC fX fZ (nI (k / n)) y) := hD
          refine lv_aload_n hx hb dX2_choose_115 rfl (lv_at hl 2 rfl) ?_
          refine lv_iload hx hb dX2_choose_116 (lv_at hl 4 rfl) ?_
          refine lv_aload_n hx hb dX2_choose_118 rfl (lv_at hl 2 rfl) ?_
          refine ww_gM 0 q160 rfl hx hb hts hown hK hP dX2_choose_119 ?_
          refine ww_irem hx hb dX2_choose_122 ?_
          refine ww_pM 6 q166 hx hb hts hown hK hP hD hS (ty := .int) (by decide +kernel) rfl rfl dX2_choose_123 (fun H locs hP hD hS => ?_)
          have hP : va_P D ww_cl (ww_M a d n fW fC fX fZ (nI (k / n)) (nI (k % n))) H := hP
          have hD : va_D A (ww_M a d n fW fC fX fZ (nI (k / n)) (nI (k % n))) := hD
          refine lv_iinc (v := nI (k + 1)) (lv' := [(5, .int (nI (k + 1))), (4, .int (nI (ww_byS fW fC fX (ww_z fZ) r (k / n) (k % n)))), (6, .int (nI (ww_byS fW fC fX (ww_z fZ) r (k / n) (k % n)))), (0, .ref (a 0)), (1, .int (nI r))]) hx hb dX2_choose_126 hl (k := 4) rfl (ww_inc k) (by decide) rfl (fun ls hl => ?_)
          refine lv_goto (tgt := 58) hx hb dX2_choose_129 (by decide) ?_
          have tk := ww_pk_take (v := (ww_bv n fW fC fX fZ r)) hI9 (by rw [← elo]; exact c_94)
          exact ih (k + 1) (by omega) (by omega) _ _ _ (by rw [ww_pv_take tk]; rfl) (by rw [tk]; rfl) (by rw [tk]; rfl) _ _ hP hD hS ls (lv_sub hl [3, 4, 1, 0] rfl)
        · refine lv_goto (tgt := 126) hx hb dX2_choose_97 (by decide) ?_
          refine lv_iinc (v := nI (k + 1)) (lv' := [(5, .int (nI (k + 1))), (6, .int (nI (ww_byS fW fC fX (ww_z fZ) r (k / n) (k % n)))), (0, .ref (a 0)), (1, .int (nI r)), (4, .int (nI lo))]) hx hb dX2_choose_126 hl (k := 4) rfl (ww_inc k) (by decide) rfl (fun ls hl => ?_)
          refine lv_goto (tgt := 58) hx hb dX2_choose_129 (by decide) ?_
          have kp := ww_pk_keep (v := (ww_bv n fW fC fX fZ r)) hI9 (by rw [← elo]; exact c_94)
          exact ih (k + 1) (by omega) (by omega) lo x y (by rw [ww_pv_same kp]; exact elo) (by rw [kp]; exact ex) (by rw [kp]; exact ey) _ _ hP hD hS ls (lv_sub hl [2, 3, 4, 0] rfl)
  refine lv_aload_n hx hb dX2_choose_0 rfl (lv_at hl 0 rfl) ?_
  refine lv_iconst (v := -1) hx hb dX2_choose_1 (by decide) ?_
  refine ww_pM 5 q165 hx hb hts hown hK hP hD hS (ty := .int) (by decide +kernel) rfl rfl dX2_choose_2 (fun H locs hP hD hS => ?_)
  have hP : va_P D ww_cl (ww_M a d n fW fC fX fZ (-1) wr) H := hP
  have hD : va_D A (ww_M a d n fW fC fX fZ (-1) wr) := hD
  refine lv_aload_n hx hb dX2_choose_5 rfl (lv_at hl 0 rfl) ?_
  refine lv_iconst (v := -1) hx hb dX2_choose_6 (by decide) ?_
  refine ww_pM 6 q166 hx hb hts hown hK hP hD hS (ty := .int) (by decide +kernel) rfl rfl dX2_choose_7 (fun H locs hP hD hS => ?_)
  have hP : va_P D ww_cl (ww_M a d n fW fC fX fZ (-1) (-1)) H := hP
  have hD : va_D A (ww_M a d n fW fC fX fZ (-1) (-1)) := hD
  refine lv_aload_n hx hb dX2_choose_10 rfl (lv_at hl 0 rfl) ?_
  refine ww_gM 4 q164 rfl hx hb hts hown hK hP dX2_choose_11 ?_
  refine lv_iload_n hx hb dX2_choose_14 rfl (lv_at hl 1 rfl) ?_
  refine ww_iald hx hb hK hP 4 3 rfl rfl dX2_choose_15 ?_
  have hz9 := hZ.2.1.1 r hr
  refine ww_top (y := nI (ww_z fZ r)) (hZ.1 r hr) ?_
  refine lv_ldc (v := nI 100000) hx hb hown (hts _ q233) dX2_choose_16 ?_
  refine ww_icmp_lt (tgt := 22) hx hb dX2_choose_18 (by decide) (fun c_18 => ?_) (fun c_18 => ?_)
  · refine lv_aload_n hx hb dX2_choose_22 rfl (lv_at hl 0 rfl) ?_
    refine lv_iload_n hx hb dX2_choose_23 rfl (lv_at hl 1 rfl) ?_
    refine lv_iload_n hx hb dX2_choose_24 rfl (lv_at hl 2 rfl) ?_
    refine lv_iload_n hx hb dX2_choose_25 rfl (lv_at hl 3 rfl) ?_
    refine ww_ro (As := [.int (nI r), .int ov, .int (nI t)]) (rest := []) ⟨hx, hb, hml, hown, hts⟩ hK hP (metX2_isAt l D a d n fW fC fX fZ (-1) (-1) r ov t (by omega) (fun z => Nat.lt_of_lt_of_le (ht0 z) hn) ht1) rfl rfl (cwV 3 hts (lw_V q229 q231 qs14 q21 q232) rfl rfl rfl (by decide +kernel) ⟨Nat.le_of_ble_eq_true rfl, Nat.le_of_ble_eq_true rfl⟩) rfl rfl (Nat.le_of_ble_eq_true rfl) hl.1 ⟨Nat.zero_le _, Nat.zero_le _⟩ dX2_choose_26 (fun r_26 h_26 => ?_)
    have h_26 : r_26 = ww_b2 (ww_at fW fX (ww_ain ov t) r) := h_26
    subst h_26
    refine ww_if_eqB (tgt := 51) hx hb dX2_choose_29 (by decide) (fun c_29 => ?_) (fun c_29 => ?_)
    · refine lv_ldc (v := nI 100000) hx hb hown (hts _ q233) dX2_choose_51 ?_
      refine lv_istore (lv' := [(4, .int (nI 100000)), (0, .ref (a 0)), (1, .int (nI r)), (2, .int ov), (3, .int (nI t))]) hx hb dX2_choose_53 hl (by decide) rfl (fun ls hl => ?_)
      refine lv_iconst (v := nI 0) hx hb dX2_choose_55 (by decide) ?_
      refine lv_istore (lv' := [(5, .int (nI 0)), (4, .int (nI 100000)), (0, .ref (a 0)), (1, .int (nI r)), (2, .int ov), (3, .int (nI t))]) hx hb dX2_choose_56 hl (by decide) rfl (fun ls hl => ?_)
      exact loopK c_29 (4 * n + 1) 0 (by omega) (by omega) 100000 (-1) (-1) rfl rfl rfl _ _ hP hD hS ls (lv_sub hl [2, 3, 1, 0] rfl)
    · refine lv_aload_n hx hb dX2_choose_32 rfl (lv_at hl 0 rfl) ?_
      refine lv_iload_n hx hb dX2_choose_33 rfl (lv_at hl 2 rfl) ?_
      refine lv_if_eq (tgt := 46) hx hb dX2_choose_34 (by decide) (fun c_34 => ?_) (fun c_34 => ?_)
      · refine lv_iconst (v := -1) hx hb dX2_choose_46 (by decide) ?_
        refine ww_pM 5 q165 hx hb hts hown hK hP hD hS (ty := .int) (by decide +kernel) rfl rfl dX2_choose_47 (fun H locs hP hD hS => ?_)
        have hP : va_P D ww_cl (ww_M a d n fW fC fX fZ (-1) (-1)) H := hP
        have hD : va_D A (ww_M a d n fW fC fX fZ (-1) (-1)) := hD
        exact W.vret hx hb hret (fun t9 ht9 hW9 => ⟨⟨(-1, -1), rfl, (by rw [(ww_way_at (by omega) c_29).1, (ww_way_at (by omega) c_29).2, if_pos (by have z := (ww_at_r (Nat.lt_of_lt_of_le (ht0 c_34) hn) c_34).mp c_29; unfold ww_ain; rw [if_pos c_34]; omega)]), by show va_P _ _ _ t9.heap; rw [ht9]; exact hP⟩, hS.F ht9⟩) hS.2.2 dX2_choose_50
      · have ht9 := ht1 c_34
        refine lv_aload_n hx hb dX2_choose_37 rfl (lv_at hl 0 rfl) ?_
        refine lv_iload_n hx hb dX2_choose_38 rfl (lv_at hl 1 rfl) ?_
        refine lv_iload_n hx hb dX2_choose_39 rfl (lv_at hl 3 rfl) ?_
        refine ww_ro (As := [.int (nI r), .int (nI t)]) (rest := [.ref (a 0)]) ⟨hx, hb, hml, hown, hts⟩ hK hP (metX2_portOn l D a d n fW fC fX fZ (-1) (-1) r (nI t) (by omega)) rfl rfl (cwV 2 hts (lw_V q197 q199 qs11 q21 q200) rfl rfl rfl (by decide +kernel) ⟨Nat.le_of_ble_eq_true rfl, Nat.le_of_ble_eq_true rfl⟩) rfl rfl (Nat.le_of_ble_eq_true rfl) hl.1 ⟨Nat.zero_le _, Nat.zero_le _⟩ dX2_choose_40 (fun r_40 h_40 => ?_)
        have h_40 : r_40 = ww_po fW r (nI t) := h_40
        subst h_40
        refine lv_goto (tgt := 47) hx hb dX2_choose_43 (by decide) ?_
        refine ww_pM 5 q165 hx hb hts hown hK hP hD hS (ty := .int) (by decide +kernel) rfl rfl dX2_choose_47 (fun H locs hP hD hS => ?_)
        have hP : va_P D ww_cl (ww_M a d n fW fC fX fZ (ww_po fW r (nI t)) (-1)) H := hP
        have hD : va_D A (ww_M a d n fW fC fX fZ (ww_po fW r (nI t)) (-1)) := hD
        exact W.vret hx hb hret (fun t9 ht9 hW9 => ⟨⟨(ww_po fW r (nI t), -1), rfl, (by rw [(ww_way_at (by omega) c_29).1, (ww_way_at (by omega) c_29).2, if_neg (by unfold ww_ain; rw [if_neg c_34]; omega), ww_dir_w c_34 ((ww_at_w c_34).mp c_29).1]), by show va_P _ _ _ t9.heap; rw [ht9]; exact hP⟩, hS.F ht9⟩) hS.2.2 dX2_choose_50
  · exact W.vret hx hb hret (fun t9 ht9 hW9 => ⟨⟨(-1, -1), rfl, (by rw [(ww_way_far hN hn0 hn hZ hr c_18).1, (ww_way_far hN hn0 hn hZ hr c_18).2]), by show va_P _ _ _ t9.heap; rw [ht9]; exact hP⟩, hS.F ht9⟩) hS.2.2 dX2_choose_21
set_option maxHeartbeats 4000000 in
set_option maxRecDepth 100000 in
theorem metX2_isAsked (l : Launch) (D : va_G) (a : Nat → Nat) (d : Nat → ClassId) (n : Nat) (fW fC fX fZ : Nat → Int32) (wp wr : Int32) (sz : Nat) (r ov t : Int32) (hn0 : 1 ≤ n) (hn : n ≤ 10) (hN : ww_net fW fC fX) : Met l yX2_isAsked (ws_ yX2_isAsked cX2_isAsked 4 (some .boolean)) ({ frames := 3, cells := 0, slots := 0, locals := 73 }) (va_Pc [.ref (a 0), .int r, .int ov, .int t] (ww_C D (ww_tM d) (ww_M a d n fW fC fX fZ wp wr) sz)) (va_Qi (fun (v : Int32) (u : (Nat → Int32) × Int32 × Int32) => v = ww_b2 (ww_ok n r ov t) ∧ (ww_ok n r ov t → ww_mz n fW fC fX (ww_aim ov t) u.1 ∧ u.2.1 = ww_portS n fW fC fX r.toNatClampNeg (ww_aim ov t) ∧ u.2.2 = ww_nextS n fW fC fX r.toNatClampNeg (ww_aim ov t))) (fun (u : (Nat → Int32) × Int32 × Int32) t => va_P D ww_cl (ww_M a d n fW fC fX u.1 u.2.1 u.2.2) t.heap) (va_A (ww_M a d n fW fC fX fZ wp wr) sz)) 0 0 (va_A (ww_M a d n fW fC fX fZ wp wr) sz) := by
  refine Met.ofW (cc := cX2_isAsked) (maxL := 4) (ret := (some .boolean)) (by decide) rfl ?_
  intro pr e s m args below meth c s₁ B hml hv
  obtain ⟨rfl, hsz, hP, hK, hD0⟩ := hv
  have hx := B.exec
  have hb := B.bytes
  have hret := B.returns
  have hts := atoms_spec (ws := (ws_ yX2_isAsked cX2_isAsked 4 (some .boolean))) B.pre
  have hts : ∀ w ∈ lw_all, w.before _ s = true := fun w h => hts w (List.mem_cons_of_mem _ h)
  have hown : s.vm.findClass RX2 = some m.cls := findClass_of_methodNamed B.named
  have hlocks := B.notSynchronized
  subst hsz
  have hD := hD0.self (sz := s.heap.size)
  generalize hAe : va_A (ww_M a d n fW fC fX fZ wp wr) s.heap.size = A at hD ⊢
  have hA : ∀ q : Nat, s.heap.size ≤ q → A q := fun q h => by rw [← hAe]; exact Or.inr h
  have hS : va_S A s.heap s.heap [] := va_S.rf
  have hP : va_P D ww_cl (ww_M a d n fW fC fX fZ wp wr) s.heap := hP
  have hl := lv_entry ([.ref (a 0), .int r, .int ov, .int t]) (n := 4) (Nat.le_of_ble_eq_true rfl)
  rw [lg_entry_eq]
  generalize (lg_sl ([.ref (a 0), .int r, .int ov, .int t]) ++ List.replicate (4 - (lg_sl ([.ref (a 0), .int r, .int ov, .int t])).length) Slot.unset).toArray = ls at hl ⊢
  have hl : lv_has ls 4 [(0, .ref (a 0)), (1, .int r), (2, .int ov), (3, .int t)] := hl
  refine lv_aload_n hx hb dX2_isAsked_0 rfl (lv_at hl 0 rfl) ?_
  refine lv_iload_n hx hb dX2_isAsked_1 rfl (lv_at hl 1 rfl) ?_
  refine ww_ro (As := [.int r]) (rest := []) ⟨hx, hb, hml, hown, hts⟩ hK hP (metX2_isRouter l D a d n fW fC fX fZ wp wr r) rfl rfl (cwV 1 hts (lw_V q190 q192 qs10 q21 q193) rfl rfl rfl (by decide +kernel) ⟨Nat.le_of_ble_eq_true rfl, Nat.le_of_ble_eq_true rfl⟩) rfl rfl (Nat.le_of_ble_eq_true rfl) hl.1 ⟨Nat.zero_le _, Nat.zero_le _⟩ dX2_isAsked_2 (fun r_2 h_2 => ?_)
  have h_2 : r_2 = ww_b2 (ww_isR n r) := h_2
  subst h_2
  refine ww_if_eqB (tgt := 30) hx hb dX2_isAsked_5 (by decide) (fun c_5 => ?_) (fun c_5 => ?_)
  · refine lv_iconst (v := nI 0) hx hb dX2_isAsked_30 (by decide) ?_
    exact W.zret hx hb hret (rfl) (fun t9 ht9 hW9 => ⟨⟨_, (fZ, wp, wr), rfl, ⟨(ww_b2_f (fun z => c_5 z.1)).symm, fun z => (show False from c_5 z.1).elim⟩, by show va_P _ _ _ t9.heap; rw [ht9]; exact hP⟩, hS.F ht9⟩) hS.2.2 dX2_isAsked_31
  · refine lv_iload_n hx hb dX2_isAsked_8 rfl (lv_at hl 2 rfl) ?_
    refine lv_if_eq (tgt := 22) hx hb dX2_isAsked_9 (by decide) (fun c_9 => ?_) (fun c_9 => ?_)
    · refine lv_aload_n hx hb dX2_isAsked_22 rfl (lv_at hl 0 rfl) ?_
      refine lv_iload_n hx hb dX2_isAsked_23 rfl (lv_at hl 3 rfl) ?_
      refine ww_ro (As := [.int t]) (rest := []) ⟨hx, hb, hml, hown, hts⟩ hK hP (metX2_isRouter l D a d n fW fC fX fZ wp wr t) rfl rfl (cwV 1 hts (lw_V q190 q192 qs10 q21 q193) rfl rfl rfl (by decide +kernel) ⟨Nat.le_of_ble_eq_true rfl, Nat.le_of_ble_eq_true rfl⟩) rfl rfl (Nat.le_of_ble_eq_true rfl) hl.1 ⟨Nat.zero_le _, Nat.zero_le _⟩ dX2_isAsked_24 (fun r_24 h_24 => ?_)
      have h_24 : r_24 = ww_b2 (ww_isR n t) := h_24
      subst h_24
      refine ww_if_neB (tgt := 32) hx hb dX2_isAsked_27 (by decide) (fun c_27 => ?_) (fun c_27 => ?_)
      · have hok : ww_ok n r ov t := ⟨c_5, c_27.1, by rw [if_pos c_9]; exact c_27.2⟩
        obtain ⟨i, hi, rfl⟩ := ww_rng (by omega) c_5.1 c_5.2
        obtain ⟨j, hj, rfl⟩ := ww_rng (by omega) c_27.1 c_27.2
        have ei : (nI i).toNatClampNeg = i := nI_clamp (by omega)
        have ea : ww_aim ov (nI j) = ww_ain ov j := ww_aim_ain (by omega)
        have ht0 : ov = 0 → j < n := fun z => hj
        have ht1 : ¬ ov = 0 → j < 16 := fun z => absurd c_9 z
        refine lv_aload_n hx hb dX2_isAsked_32 rfl (lv_at hl 0 rfl) ?_
        refine lv_iload_n hx hb dX2_isAsked_33 rfl (lv_at hl 2 rfl) ?_
        refine lv_iload_n hx hb dX2_isAsked_34 rfl (lv_at hl 3 rfl) ?_
        refine ww_rv (As := [.int ov, .int (nI j)]) (rest := []) ⟨hx, hb, hml, hown, hts⟩ hK hP hD hS hA (metX2_reckon l D a d n fW fC fX fZ wp wr _ ov j hn0 hn hN ht0 ht1) rfl rfl (cwV 2 hts (lw_V q225 q227 qs13 q21 q228) rfl rfl rfl (by decide +kernel) ⟨Nat.le_of_ble_eq_true rfl, Nat.le_of_ble_eq_true rfl⟩) rfl rfl (Nat.le_of_ble_eq_true rfl) hl.1 ⟨Nat.zero_le _, Nat.zero_le _⟩ dX2_isAsked_35 (fun u_35 H locs h_35 hP hk_35 hS => ?_)
        have hP : va_P D ww_cl (ww_M a d n fW fC fX u_35 wp wr) H := hP
        have hD : va_D A (ww_M a d n fW fC fX u_35 wp wr) := ww_Dad hD rfl
        refine lv_aload_n hx hb dX2_isAsked_38 rfl (lv_at hl 0 rfl) ?_
        refine lv_iload_n hx hb dX2_isAsked_39 rfl (lv_at hl 1 rfl) ?_
        refine lv_iload_n hx hb dX2_isAsked_40 rfl (lv_at hl 2 rfl) ?_
        refine lv_iload_n hx hb dX2_isAsked_41 rfl (lv_at hl 3 rfl) ?_
        refine ww_rv (As := [.int (nI i), .int ov, .int (nI j)]) (rest := []) ⟨hx, hb, hml, hown, hts⟩ hK hP hD hS hA (metX2_choose l D a d n fW fC fX u_35 wp wr _ i ov j hn0 hn hN ht0 ht1 hi h_35) rfl rfl (cwV 3 hts (lw_V q238 q240 qs16 q21 q241) rfl rfl rfl (by decide +kernel) ⟨Nat.le_of_ble_eq_true rfl, Nat.le_of_ble_eq_true rfl⟩) rfl rfl (Nat.le_of_ble_eq_true rfl) hl.1 ⟨Nat.zero_le _, Nat.zero_le _⟩ dX2_isAsked_42 (fun u_42 H locs h_42 hP hk_42 hS => ?_)
        subst h_42
        have hP : va_P D ww_cl (ww_M a d n fW fC fX u_35 (ww_portS n fW fC fX i (ww_ain ov j)) (ww_nextS n fW fC fX i (ww_ain ov j))) H := hP
        have hD : va_D A (ww_M a d n fW fC fX u_35 (ww_portS n fW fC fX i (ww_ain ov j)) (ww_nextS n fW fC fX i (ww_ain ov j))) := ww_Dad hD rfl
        refine lv_iconst (v := nI 1) hx hb dX2_isAsked_45 (by decide) ?_
        exact W.zret hx hb hret (rfl) (fun t9 ht9 hW9 => ⟨⟨_, (u_35, ww_portS n fW fC fX i (ww_ain ov j), ww_nextS n fW fC fX i (ww_ain ov j)), rfl, ⟨(ww_b2_t hok).symm, fun _ => by rw [ea, ei]; exact ⟨h_35, rfl, rfl⟩⟩, by show va_P _ _ _ t9.heap; rw [ht9]; exact hP⟩, hS.F ht9⟩) hS.2.2 dX2_isAsked_46
      · refine lv_iconst (v := nI 0) hx hb dX2_isAsked_30 (by decide) ?_
        exact W.zret hx hb hret (rfl) (fun t9 ht9 hW9 => ⟨⟨_, (fZ, wp, wr), rfl, ⟨(ww_b2_f (fun z => c_27 ⟨z.2.1, by have y := z.2.2; rw [if_pos c_9] at y; exact y⟩)).symm, fun z => (show False from c_27 ⟨z.2.1, by have y := z.2.2; rw [if_pos c_9] at y; exact y⟩).elim⟩, by show va_P _ _ _ t9.heap; rw [ht9]; exact hP⟩, hS.F ht9⟩) hS.2.2 dX2_isAsked_31
    · refine lv_iload_n hx hb dX2_isAsked_12 rfl (lv_at hl 3 rfl) ?_
      refine ww_roS (As := [.int t]) (rest := []) ⟨hx, hb, hml, hown, hts⟩ (metX2_isWire l t) (va_cwS 1 hts (lw_S q194 q195 q21 q196) rfl rfl rfl (by decide +kernel) ⟨Nat.le_of_ble_eq_true rfl, Nat.le_of_ble_eq_true rfl⟩) rfl rfl (Nat.le_of_ble_eq_true rfl) hl.1 ⟨Nat.zero_le _, Nat.zero_le _⟩ dX2_isAsked_13 (fun r_13 h_13 => ?_)
      have h_13 : r_13 = ww_b2 (ww_isW t) := h_13
      subst h_13
      refine ww_if_neB (tgt := 32) hx hb dX2_isAsked_16 (by decide) (fun c_16 => ?_) (fun c_16 => ?_)
      · have hok : ww_ok n r ov t := ⟨c_5, c_16.1, by rw [if_neg c_9]; exact c_16.2⟩
        obtain ⟨i, hi, rfl⟩ := ww_rng (by omega) c_5.1 c_5.2
        obtain ⟨j, hj, rfl⟩ := ww_rng (by omega) c_16.1 c_16.2
        have ei : (nI i).toNatClampNeg = i := nI_clamp (by omega)
        have ea : ww_aim ov (nI j) = ww_ain ov j := ww_aim_ain (by omega)
        have ht0 : ov = 0 → j < n := fun z => absurd z c_9
        have ht1 : ¬ ov = 0 → j < 16 := fun z => hj
        refine lv_aload_n hx hb dX2_isAsked_32 rfl (lv_at hl 0 rfl) ?_
        refine lv_iload_n hx hb dX2_isAsked_33 rfl (lv_at hl 2 rfl) ?_
        refine lv_iload_n hx hb dX2_isAsked_34 rfl (lv_at hl 3 rfl) ?_
        refine ww_rv (As := [.int ov, .int (nI j)]) (rest := []) ⟨hx, hb, hml, hown, hts⟩ hK hP hD hS hA (metX2_reckon l D a d n fW fC fX fZ wp wr _ ov j hn0 hn hN ht0 ht1) rfl rfl (cwV 2 hts (lw_V q225 q227 qs13 q21 q228) rfl rfl rfl (by decide +kernel) ⟨Nat.le_of_ble_eq_true rfl, Nat.le_of_ble_eq_true rfl⟩) rfl rfl (Nat.le_of_ble_eq_true rfl) hl.1 ⟨Nat.zero_le _, Nat.zero_le _⟩ dX2_isAsked_35 (fun u_35 H locs h_35 hP hk_35 hS => ?_)
        have hP : va_P D ww_cl (ww_M a d n fW fC fX u_35 wp wr) H := hP
        have hD : va_D A (ww_M a d n fW fC fX u_35 wp wr) := ww_Dad hD rfl
        refine lv_aload_n hx hb dX2_isAsked_38 rfl (lv_at hl 0 rfl) ?_
        refine lv_iload_n hx hb dX2_isAsked_39 rfl (lv_at hl 1 rfl) ?_
        refine lv_iload_n hx hb dX2_isAsked_40 rfl (lv_at hl 2 rfl) ?_
        refine lv_iload_n hx hb dX2_isAsked_41 rfl (lv_at hl 3 rfl) ?_
        refine ww_rv (As := [.int (nI i), .int ov, .int (nI j)]) (rest := []) ⟨hx, hb, hml, hown, hts⟩ hK hP hD hS hA (metX2_choose l D a d n fW fC fX u_35 wp wr _ i ov j hn0 hn hN ht0 ht1 hi h_35) rfl rfl (cwV 3 hts (lw_V q238 q240 qs16 q21 q241) rfl rfl rfl (by decide +kernel) ⟨Nat.le_of_ble_eq_true rfl, Nat.le_of_ble_eq_true rfl⟩) rfl rfl (Nat.le_of_ble_eq_true rfl) hl.1 ⟨Nat.zero_le _, Nat.zero_le _⟩ dX2_isAsked_42 (fun u_42 H locs h_42 hP hk_42 hS => ?_)
        subst h_42
        have hP : va_P D ww_cl (ww_M a d n fW fC fX u_35 (ww_portS n fW fC fX i (ww_ain ov j)) (ww_nextS n fW fC fX i (ww_ain ov j))) H := hP
        have hD : va_D A (ww_M a d n fW fC fX u_35 (ww_portS n fW fC fX i (ww_ain ov j)) (ww_nextS n fW fC fX i (ww_ain ov j))) := ww_Dad hD rfl
        refine lv_iconst (v := nI 1) hx hb dX2_isAsked_45 (by decide) ?_
        exact W.zret hx hb hret (rfl) (fun t9 ht9 hW9 => ⟨⟨_, (u_35, ww_portS n fW fC fX i (ww_ain ov j), ww_nextS n fW fC fX i (ww_ain ov j)), rfl, ⟨(ww_b2_t hok).symm, fun _ => by rw [ea, ei]; exact ⟨h_35, rfl, rfl⟩⟩, by show va_P _ _ _ t9.heap; rw [ht9]; exact hP⟩, hS.F ht9⟩) hS.2.2 dX2_isAsked_46
      · refine lv_goto (tgt := 30) hx hb dX2_isAsked_19 (by decide) ?_
        refine lv_iconst (v := nI 0) hx hb dX2_isAsked_30 (by decide) ?_
        exact W.zret hx hb hret (rfl) (fun t9 ht9 hW9 => ⟨⟨_, (fZ, wp, wr), rfl, ⟨(ww_b2_f (fun z => c_16 ⟨z.2.1, by have y := z.2.2; rw [if_neg c_9] at y; exact y⟩)).symm, fun z => (show False from c_16 ⟨z.2.1, by have y := z.2.2; rw [if_neg c_9] at y; exact y⟩).elim⟩, by show va_P _ _ _ t9.heap; rw [ht9]; exact hP⟩, hS.F ht9⟩) hS.2.2 dX2_isAsked_31
set_option maxHeartbeats 4000000 in
set_option maxRecDepth 100000 in
theorem metX2_far (l : Launch) (D : va_G) (a : Nat → Nat) (d : Nat → ClassId) (n : Nat) (fW fC fX fZ : Nat → Int32) (wp wr : Int32) (sz : Nat) (r ov t : Int32) (hn0 : 1 ≤ n) (hn : n ≤ 10) (hN : ww_net fW fC fX) : Met l yX2_far (ws_ yX2_far cX2_far 4 (some .int)) ({ frames := 4, cells := 0, slots := 0, locals := 96 }) (va_Pc [.ref (a 0), .int r, .int ov, .int t] (ww_C D (ww_tM d) (ww_M a d n fW fC fX fZ wp wr) sz)) (va_Qi (fun (v : Int32) (u : (Nat → Int32) × Int32 × Int32) => v = ww_q n (ww_farS n fW fC fX) r ov t ∧ (ww_ok n r ov t → ww_mz n fW fC fX (ww_aim ov t) u.1)) (fun (u : (Nat → Int32) × Int32 × Int32) t => va_P D ww_cl (ww_M a d n fW fC fX u.1 u.2.1 u.2.2) t.heap) (va_A (ww_M a d n fW fC fX fZ wp wr) sz)) 0 0 (va_A (ww_M a d n fW fC fX fZ wp wr) sz) := by
  refine Met.ofW (cc := cX2_far) (maxL := 4) (ret := (some .int)) (by decide) rfl ?_
  intro pr e s m args below meth c s₁ B hml hv
  obtain ⟨rfl, hsz, hP, hK, hD0⟩ := hv
  have hx := B.exec
  have hb := B.bytes
  have hret := B.returns
  have hts := atoms_spec (ws := (ws_ yX2_far cX2_far 4 (some .int))) B.pre
  have hts : ∀ w ∈ lw_all, w.before _ s = true := fun w h => hts w (List.mem_cons_of_mem _ h)
  have hown : s.vm.findClass RX2 = some m.cls := findClass_of_methodNamed B.named
  have hlocks := B.notSynchronized
  subst hsz
  have hD := hD0.self (sz := s.heap.size)
  generalize hAe : va_A (ww_M a d n fW fC fX fZ wp wr) s.heap.size = A at hD ⊢
  have hA : ∀ q : Nat, s.heap.size ≤ q → A q := fun q h => by rw [← hAe]; exact Or.inr h
  have hS : va_S A s.heap s.heap [] := va_S.rf
  have hP : va_P D ww_cl (ww_M a d n fW fC fX fZ wp wr) s.heap := hP
  have hl := lv_entry ([.ref (a 0), .int r, .int ov, .int t]) (n := 4) (Nat.le_of_ble_eq_true rfl)
  rw [lg_entry_eq]
  generalize (lg_sl ([.ref (a 0), .int r, .int ov, .int t]) ++ List.replicate (4 - (lg_sl ([.ref (a 0), .int r, .int ov, .int t])).length) Slot.unset).toArray = ls at hl ⊢
  have hl : lv_has ls 4 [(0, .ref (a 0)), (1, .int r), (2, .int ov), (3, .int t)] := hl
  refine lv_aload_n hx hb dX2_far_0 rfl (lv_at hl 0 rfl) ?_
  refine lv_iload_n hx hb dX2_far_1 rfl (lv_at hl 1 rfl) ?_
  refine lv_iload_n hx hb dX2_far_2 rfl (lv_at hl 2 rfl) ?_
  refine lv_iload_n hx hb dX2_far_3 rfl (lv_at hl 3 rfl) ?_
  refine ww_rw (As := [.int r, .int ov, .int t]) (rest := []) ⟨hx, hb, hml, hown, hts⟩ hK hP hD hS hA (metX2_isAsked l D a d n fW fC fX fZ wp wr _ r ov t hn0 hn hN) rfl rfl (cwV 3 hts (lw_V q221 q223 qs12 q21 q224) rfl rfl rfl (by decide +kernel) ⟨Nat.le_of_ble_eq_true rfl, Nat.le_of_ble_eq_true rfl⟩) rfl rfl (Nat.le_of_ble_eq_true rfl) hl.1 ⟨Nat.zero_le _, Nat.zero_le _⟩ dX2_far_4 (fun r_4 u_4 H locs h_4 hP hk_4 hS => ?_)
  obtain ⟨g1, g2⟩ := h_4
  subst g1
  have hP : va_P D ww_cl (ww_M a d n fW fC fX u_4.1 u_4.2.1 u_4.2.2) H := hP
  have hD : va_D A (ww_M a d n fW fC fX u_4.1 u_4.2.1 u_4.2.2) := ww_Dad hD rfl
  refine ww_if_eqB (tgt := 30) hx hb dX2_far_7 (by decide) (fun c_7 => ?_) (fun c_7 => ?_)
  · refine lv_iconst (v := -1) hx hb dX2_far_30 (by decide) ?_
    exact W.iret hx hb hret (fun t9 ht9 hW9 => ⟨⟨_, u_4, rfl, ⟨(ww_q_no c_7).symm, fun z => absurd z c_7⟩, by show va_P _ _ _ t9.heap; rw [ht9]; exact hP⟩, hS.F ht9⟩) hS.2.2 dX2_far_31
  · obtain ⟨hZ, -, -⟩ := g2 c_7
    obtain ⟨hi, er⟩ := ww_isR_nat hn c_7.1
    generalize ei : r.toNatClampNeg = i at hi er
    subst er
    have hz9 := hZ.2.1.1 i hi
    have hD9 := ww_mz_D hN hn hZ hi
    refine lv_aload_n hx hb dX2_far_10 rfl (lv_at hl 0 rfl) ?_
    refine ww_gM 4 q164 rfl hx hb hts hown hK hP dX2_far_11 ?_
    refine lv_iload_n hx hb dX2_far_14 rfl (lv_at hl 1 rfl) ?_
    refine ww_iald hx hb hK hP 4 3 rfl rfl dX2_far_15 ?_
    refine ww_top (y := nI (ww_z u_4.1 i)) (hZ.1 i hi) ?_
    refine lv_ldc (v := nI 100000) hx hb hown (hts _ q233) dX2_far_16 ?_
    refine ww_icmp_ge (tgt := 30) hx hb dX2_far_18 (by decide) (fun c_18 => ?_) (fun c_18 => ?_)
    · refine lv_iconst (v := -1) hx hb dX2_far_30 (by decide) ?_
      exact W.iret hx hb hret (fun t9 ht9 hW9 => ⟨⟨_, u_4, rfl, ⟨by rw [ww_q_ok c_7, ei, ww_far_0 (hD9.2 c_18)], fun _ => hZ⟩, by show va_P _ _ _ t9.heap; rw [ht9]; exact hP⟩, hS.F ht9⟩) hS.2.2 dX2_far_31
    · refine lv_aload_n hx hb dX2_far_21 rfl (lv_at hl 0 rfl) ?_
      refine ww_gM 4 q164 rfl hx hb hts hown hK hP dX2_far_22 ?_
      refine lv_iload_n hx hb dX2_far_25 rfl (lv_at hl 1 rfl) ?_
      refine ww_iald hx hb hK hP 4 3 rfl rfl dX2_far_26 ?_
      refine ww_top (y := nI (ww_z u_4.1 i)) (hZ.1 i hi) ?_
      refine lv_goto (tgt := 31) hx hb dX2_far_27 (by decide) ?_
      exact W.iret hx hb hret (fun t9 ht9 hW9 => ⟨⟨_, u_4, rfl, ⟨by rw [ww_q_ok c_7, ei, ww_far_1 (by rw [(hD9.1 c_18).2]; have := (hD9.1 c_18).1; omega) (by rw [(hD9.1 c_18).2]; have := (hD9.1 c_18).1; omega), (hD9.1 c_18).2], fun _ => hZ⟩, by show va_P _ _ _ t9.heap; rw [ht9]; exact hP⟩, hS.F ht9⟩) hS.2.2 dX2_far_31
set_option maxHeartbeats 4000000 in
set_option maxRecDepth 100000 in
theorem metX2_port (l : Launch) (D : va_G) (a : Nat → Nat) (d : Nat → ClassId) (n : Nat) (fW fC fX fZ : Nat → Int32) (wp wr : Int32) (sz : Nat) (r ov t : Int32) (hn0 : 1 ≤ n) (hn : n ≤ 10) (hN : ww_net fW fC fX) : Met l yX2_port (ws_ yX2_port cX2_port 4 (some .int)) ({ frames := 4, cells := 0, slots := 0, locals := 96 }) (va_Pc [.ref (a 0), .int r, .int ov, .int t] (ww_C D (ww_tM d) (ww_M a d n fW fC fX fZ wp wr) sz)) (va_Qi (fun (v : Int32) (u : (Nat → Int32) × Int32 × Int32) => v = ww_q n (ww_portS n fW fC fX) r ov t) (fun (u : (Nat → Int32) × Int32 × Int32) t => va_P D ww_cl (ww_M a d n fW fC fX u.1 u.2.1 u.2.2) t.heap) (va_A (ww_M a d n fW fC fX fZ wp wr) sz)) 0 0 (va_A (ww_M a d n fW fC fX fZ wp wr) sz) := by
  refine Met.ofW (cc := cX2_port) (maxL := 4) (ret := (some .int)) (by decide) rfl ?_
  intro pr e s m args below meth c s₁ B hml hv
  obtain ⟨rfl, hsz, hP, hK, hD0⟩ := hv
  have hx := B.exec
  have hb := B.bytes
  have hret := B.returns
  have hts := atoms_spec (ws := (ws_ yX2_port cX2_port 4 (some .int))) B.pre
  have hts : ∀ w ∈ lw_all, w.before _ s = true := fun w h => hts w (List.mem_cons_of_mem _ h)
  have hown : s.vm.findClass RX2 = some m.cls := findClass_of_methodNamed B.named
  have hlocks := B.notSynchronized
  subst hsz
  have hD := hD0.self (sz := s.heap.size)
  generalize hAe : va_A (ww_M a d n fW fC fX fZ wp wr) s.heap.size = A at hD ⊢
  have hA : ∀ q : Nat, s.heap.size ≤ q → A q := fun q h => by rw [← hAe]; exact Or.inr h
  have hS : va_S A s.heap s.heap [] := va_S.rf
  have hP : va_P D ww_cl (ww_M a d n fW fC fX fZ wp wr) s.heap := hP
  have hl := lv_entry ([.ref (a 0), .int r, .int ov, .int t]) (n := 4) (Nat.le_of_ble_eq_true rfl)
  rw [lg_entry_eq]
  generalize (lg_sl ([.ref (a 0), .int r, .int ov, .int t]) ++ List.replicate (4 - (lg_sl ([.ref (a 0), .int r, .int ov, .int t])).length) Slot.unset).toArray = ls at hl ⊢
  have hl : lv_has ls 4 [(0, .ref (a 0)), (1, .int r), (2, .int ov), (3, .int t)] := hl
  refine lv_aload_n hx hb dX2_port_0 rfl (lv_at hl 0 rfl) ?_
  refine lv_iload_n hx hb dX2_port_1 rfl (lv_at hl 1 rfl) ?_
  refine lv_iload_n hx hb dX2_port_2 rfl (lv_at hl 2 rfl) ?_
  refine lv_iload_n hx hb dX2_port_3 rfl (lv_at hl 3 rfl) ?_
  refine ww_rw (As := [.int r, .int ov, .int t]) (rest := []) ⟨hx, hb, hml, hown, hts⟩ hK hP hD hS hA (metX2_isAsked l D a d n fW fC fX fZ wp wr _ r ov t hn0 hn hN) rfl rfl (cwV 3 hts (lw_V q221 q223 qs12 q21 q224) rfl rfl rfl (by decide +kernel) ⟨Nat.le_of_ble_eq_true rfl, Nat.le_of_ble_eq_true rfl⟩) rfl rfl (Nat.le_of_ble_eq_true rfl) hl.1 ⟨Nat.zero_le _, Nat.zero_le _⟩ dX2_port_4 (fun r_4 u_4 H locs h_4 hP hk_4 hS => ?_)
  obtain ⟨g1, g2⟩ := h_4
  subst g1
  have hP : va_P D ww_cl (ww_M a d n fW fC fX u_4.1 u_4.2.1 u_4.2.2) H := hP
  have hD : va_D A (ww_M a d n fW fC fX u_4.1 u_4.2.1 u_4.2.2) := ww_Dad hD rfl
  refine ww_if_eqB (tgt := 17) hx hb dX2_port_7 (by decide) (fun c_7 => ?_) (fun c_7 => ?_)
  · refine lv_iconst (v := -1) hx hb dX2_port_17 (by decide) ?_
    exact W.iret hx hb hret (fun t9 ht9 hW9 => ⟨⟨_, u_4, rfl, (ww_q_no c_7).symm, by show va_P _ _ _ t9.heap; rw [ht9]; exact hP⟩, hS.F ht9⟩) hS.2.2 dX2_port_18
  · refine lv_aload_n hx hb dX2_port_10 rfl (lv_at hl 0 rfl) ?_
    refine ww_gM 5 q165 rfl hx hb hts hown hK hP dX2_port_11 ?_
    refine lv_goto (tgt := 18) hx hb dX2_port_14 (by decide) ?_
    exact W.iret hx hb hret (fun t9 ht9 hW9 => ⟨⟨_, u_4, rfl, (by rw [ww_q_ok c_7]; exact (g2 c_7).2.1), by show va_P _ _ _ t9.heap; rw [ht9]; exact hP⟩, hS.F ht9⟩) hS.2.2 dX2_port_18
set_option maxHeartbeats 4000000 in
set_option maxRecDepth 100000 in
theorem metX2_next (l : Launch) (D : va_G) (a : Nat → Nat) (d : Nat → ClassId) (n : Nat) (fW fC fX fZ : Nat → Int32) (wp wr : Int32) (sz : Nat) (r ov t : Int32) (hn0 : 1 ≤ n) (hn : n ≤ 10) (hN : ww_net fW fC fX) : Met l yX2_next (ws_ yX2_next cX2_next 4 (some .int)) ({ frames := 4, cells := 0, slots := 0, locals := 96 }) (va_Pc [.ref (a 0), .int r, .int ov, .int t] (ww_C D (ww_tM d) (ww_M a d n fW fC fX fZ wp wr) sz)) (va_Qi (fun (v : Int32) (u : (Nat → Int32) × Int32 × Int32) => v = ww_q n (ww_nextS n fW fC fX) r ov t) (fun (u : (Nat → Int32) × Int32 × Int32) t => va_P D ww_cl (ww_M a d n fW fC fX u.1 u.2.1 u.2.2) t.heap) (va_A (ww_M a d n fW fC fX fZ wp wr) sz)) 0 0 (va_A (ww_M a d n fW fC fX fZ wp wr) sz) := by
  refine Met.ofW (cc := cX2_next) (maxL := 4) (ret := (some .int)) (by decide) rfl ?_
  intro pr e s m args below meth c s₁ B hml hv
  obtain ⟨rfl, hsz, hP, hK, hD0⟩ := hv
  have hx := B.exec
  have hb := B.bytes
  have hret := B.returns
  have hts := atoms_spec (ws := (ws_ yX2_next cX2_next 4 (some .int))) B.pre
  have hts : ∀ w ∈ lw_all, w.before _ s = true := fun w h => hts w (List.mem_cons_of_mem _ h)
  have hown : s.vm.findClass RX2 = some m.cls := findClass_of_methodNamed B.named
  have hlocks := B.notSynchronized
  subst hsz
  have hD := hD0.self (sz := s.heap.size)
  generalize hAe : va_A (ww_M a d n fW fC fX fZ wp wr) s.heap.size = A at hD ⊢
  have hA : ∀ q : Nat, s.heap.size ≤ q → A q := fun q h => by rw [← hAe]; exact Or.inr h
  have hS : va_S A s.heap s.heap [] := va_S.rf
  have hP : va_P D ww_cl (ww_M a d n fW fC fX fZ wp wr) s.heap := hP
  have hl := lv_entry ([.ref (a 0), .int r, .int ov, .int t]) (n := 4) (Nat.le_of_ble_eq_true rfl)
  rw [lg_entry_eq]
  generalize (lg_sl ([.ref (a 0), .int r, .int ov, .int t]) ++ List.replicate (4 - (lg_sl ([.ref (a 0), .int r, .int ov, .int t])).length) Slot.unset).toArray = ls at hl ⊢
  have hl : lv_has ls 4 [(0, .ref (a 0)), (1, .int r), (2, .int ov), (3, .int t)] := hl
  refine lv_aload_n hx hb dX2_next_0 rfl (lv_at hl 0 rfl) ?_
  refine lv_iload_n hx hb dX2_next_1 rfl (lv_at hl 1 rfl) ?_
  refine lv_iload_n hx hb dX2_next_2 rfl (lv_at hl 2 rfl) ?_
  refine lv_iload_n hx hb dX2_next_3 rfl (lv_at hl 3 rfl) ?_
  refine ww_rw (As := [.int r, .int ov, .int t]) (rest := []) ⟨hx, hb, hml, hown, hts⟩ hK hP hD hS hA (metX2_isAsked l D a d n fW fC fX fZ wp wr _ r ov t hn0 hn hN) rfl rfl (cwV 3 hts (lw_V q221 q223 qs12 q21 q224) rfl rfl rfl (by decide +kernel) ⟨Nat.le_of_ble_eq_true rfl, Nat.le_of_ble_eq_true rfl⟩) rfl rfl (Nat.le_of_ble_eq_true rfl) hl.1 ⟨Nat.zero_le _, Nat.zero_le _⟩ dX2_next_4 (fun r_4 u_4 H locs h_4 hP hk_4 hS => ?_)
  obtain ⟨g1, g2⟩ := h_4
  subst g1
  have hP : va_P D ww_cl (ww_M a d n fW fC fX u_4.1 u_4.2.1 u_4.2.2) H := hP
  have hD : va_D A (ww_M a d n fW fC fX u_4.1 u_4.2.1 u_4.2.2) := ww_Dad hD rfl
  refine ww_if_eqB (tgt := 17) hx hb dX2_next_7 (by decide) (fun c_7 => ?_) (fun c_7 => ?_)
  · refine lv_iconst (v := -1) hx hb dX2_next_17 (by decide) ?_
    exact W.iret hx hb hret (fun t9 ht9 hW9 => ⟨⟨_, u_4, rfl, (ww_q_no c_7).symm, by show va_P _ _ _ t9.heap; rw [ht9]; exact hP⟩, hS.F ht9⟩) hS.2.2 dX2_next_18
  · refine lv_aload_n hx hb dX2_next_10 rfl (lv_at hl 0 rfl) ?_
    refine ww_gM 6 q166 rfl hx hb hts hown hK hP dX2_next_11 ?_
    refine lv_goto (tgt := 18) hx hb dX2_next_14 (by decide) ?_
    exact W.iret hx hb hret (fun t9 ht9 hW9 => ⟨⟨_, u_4, rfl, (by rw [ww_q_ok c_7]; exact (g2 c_7).2.2), by show va_P _ _ _ t9.heap; rw [ht9]; exact hP⟩, hS.F ht9⟩) hS.2.2 dX2_next_18
set_option maxHeartbeats 4000000 in
set_option maxRecDepth 100000 in
theorem metX2_walk (l : Launch) (D : va_G) (a : Nat → Nat) (d : Nat → ClassId) (n : Nat) (fW fC fX fZ : Nat → Int32) (wp wr : Int32) (sz : Nat) (r ov t k : Int32) (hn0 : 1 ≤ n) (hn : n ≤ 10) (hN : ww_net fW fC fX) : Met l yX2_walk (ws_ yX2_walk cX2_walk 7 (some .int)) ({ frames := 5, cells := 0, slots := 0, locals := 119 }) (va_Pc [.ref (a 0), .int r, .int ov, .int t, .int k] (ww_C D (ww_tM d) (ww_M a d n fW fC fX fZ wp wr) sz)) (va_Qi (fun (v : Int32) (u : (Nat → Int32) × Int32 × Int32) => v = ww_walkS n fW fC fX r ov t k) (fun (u : (Nat → Int32) × Int32 × Int32) t => va_P D ww_cl (ww_M a d n fW fC fX u.1 u.2.1 u.2.2) t.heap) (va_A (ww_M a d n fW fC fX fZ wp wr) sz)) 0 0 (va_A (ww_M a d n fW fC fX fZ wp wr) sz) := by
  refine Met.ofW (cc := cX2_walk) (maxL := 7) (ret := (some .int)) (by decide) rfl ?_
  intro pr e s m args below meth c s₁ B hml hv
  obtain ⟨rfl, hsz, hP, hK, hD0⟩ := hv
  have hx := B.exec
  have hb := B.bytes
  have hret := B.returns
  have hts := atoms_spec (ws := (ws_ yX2_walk cX2_walk 7 (some .int))) B.pre
  have hts : ∀ w ∈ lw_all, w.before _ s = true := fun w h => hts w (List.mem_cons_of_mem _ h)
  have hown : s.vm.findClass RX2 = some m.cls := findClass_of_methodNamed B.named
  have hlocks := B.notSynchronized
  subst hsz
  have hD := hD0.self (sz := s.heap.size)
  generalize hAe : va_A (ww_M a d n fW fC fX fZ wp wr) s.heap.size = A at hD ⊢
  have hA : ∀ q : Nat, s.heap.size ≤ q → A q := fun q h => by rw [← hAe]; exact Or.inr h
  have hS : va_S A s.heap s.heap [] := va_S.rf
  have hP : va_P D ww_cl (ww_M a d n fW fC fX fZ wp wr) s.heap := hP
  have hl := lv_entry ([.ref (a 0), .int r, .int ov, .int t, .int k]) (n := 7) (Nat.le_of_ble_eq_true rfl)
  rw [lg_entry_eq]
  generalize (lg_sl ([.ref (a 0), .int r, .int ov, .int t, .int k]) ++ List.replicate (7 - (lg_sl ([.ref (a 0), .int r, .int ov, .int t, .int k])).length) Slot.unset).toArray = ls at hl ⊢
  have hl : lv_has ls 7 [(0, .ref (a 0)), (1, .int r), (2, .int ov), (3, .int t), (4, .int k)] := hl
  have loop : ∀ (kk : Nat), kk < 2 ^ 31 → k = nI kk → ww_walkS n fW fC fX r ov t k = ww_wk (fun x => ww_q n (ww_nextS n fW fC fX) x ov t) kk r → ww_ok n r ov t → ∀ (Z : Nat → Int32), ww_mz n fW fC fX (ww_aim ov t) Z → ∀ (j i : Nat), i ≤ kk → kk + 1 ≤ i + j → ∀ (x y1 y2 : Int32), ww_wk (fun x => ww_q n (ww_nextS n fW fC fX) x ov t) (kk - i) x = ww_wk (fun x => ww_q n (ww_nextS n fW fC fX) x ov t) kk r → (x = -1 ∨ ww_isR n x) → ∀ (H : Heap) (locs : List Loc), va_P D ww_cl (ww_M a d n fW fC fX Z y1 y2) H → va_D A (ww_M a d n fW fC fX Z y1 y2) → va_S A s.heap H locs → ∀ (ls : Array Slot), lv_has ls 7 [(0, .ref (a 0)), (2, .int ov), (3, .int t), (4, .int (nI kk)), (5, .int x), (6, .int (nI i))] → W pr l e (headSpec (ws_ yX2_walk cX2_walk 7 (some .int)) ({ frames := 5, cells := 0, slots := 0, locals := 119 })).room s m ([.ref (a 0), .int r, .int ov, .int t, .int k] : List Value).toArray below meth c H locs 0 0 (MQ below (va_Qi (fun (v : Int32) (u : (Nat → Int32) × Int32 × Int32) => v = ww_walkS n fW fC fX r ov t k) (fun (u : (Nat → Int32) × Int32 × Int32) t => va_P D ww_cl (ww_M a d n fW fC fX u.1 u.2.1 u.2.2) t.heap) A) ([.ref (a 0), .int r, .int ov, .int t, .int k] : List Value).toArray s 0 0 A) (F0 m 24 ls []) := by
    intro kk hkk ek hsp hok Z hZ j
    induction j with
    | zero => intro i h1 h2; exact absurd h2 (by omega)
    | succ j ih =>
      intro i h1 h2 x y1 y2 hx9 hxr H locs hP hD hS ls hl
      refine lv_iload hx hb dX2_walk_24 (lv_at hl 5 rfl) ?_
      refine lv_iload hx hb dX2_walk_26 (lv_at hl 3 rfl) ?_
      refine ww_icmp_ge (tgt := 57) hx hb dX2_walk_28 (by decide) (fun c_28 => ?_) (fun c_28 => ?_)
      · refine lv_iload hx hb dX2_walk_57 (lv_at hl 4 rfl) ?_
        exact W.iret hx hb hret (fun t9 ht9 hW9 => ⟨⟨_, (Z, y1, y2), rfl, (by rw [hsp, ← hx9, show kk - i = 0 by omega]; rfl), by show va_P _ _ _ t9.heap; rw [ht9]; exact hP⟩, hS.F ht9⟩) hS.2.2 dX2_walk_59
      · refine lv_iload hx hb dX2_walk_31 (lv_at hl 4 rfl) ?_
        refine lv_iconst (v := -1) hx hb dX2_walk_33 (by decide) ?_
        refine lv_icmp_eq (tgt := 57) hx hb dX2_walk_34 (by decide) (fun c_34 => ?_) (fun c_34 => ?_)
        · refine lv_iload hx hb dX2_walk_57 (lv_at hl 4 rfl) ?_
          exact W.iret hx hb hret (fun t9 ht9 hW9 => ⟨⟨_, (Z, y1, y2), rfl, (by rw [hsp, ← hx9, c_34, ww_wk_m1]), by show va_P _ _ _ t9.heap; rw [ht9]; exact hP⟩, hS.F ht9⟩) hS.2.2 dX2_walk_59
        · have hxR : ww_isR n x := by rcases hxr with z | z; exact absurd z c_34; exact z
          have hokx : ww_ok n x ov t := ⟨hxR, hok.2⟩
          obtain ⟨q, hq, eq⟩ := ww_rng (by omega) hxR.1 hxR.2
          obtain ⟨tt, htt, et⟩ : ∃ tt : Nat, tt < 2 ^ 31 ∧ t = nI tt := nI_of hok.2.1
          have ea : ww_aim ov t = ww_ain ov tt := by rw [et]; exact ww_aim_ain htt
          have ht0 : ov = 0 → tt < n := fun z => by have y := hok.2.2; rw [if_pos z, et] at y; exact Nat.lt_of_not_le (fun u => y (nI_le u htt))
          have ht1 : ¬ ov = 0 → tt < 16 := fun z => by have y := hok.2.2; rw [if_neg z, et] at y; exact Nat.lt_of_not_le (fun u => y (nI_le u htt))
          have hZ2 := hZ
          rw [ea] at hZ2
          have ef : ww_q n (ww_nextS n fW fC fX) x ov t = ww_nextS n fW fC fX q (ww_ain ov tt) := by rw [ww_q_ok hokx, ea, eq, nI_clamp (by omega)]
          refine lv_aload_n hx hb dX2_walk_37 rfl (lv_at hl 0 rfl) ?_
          refine lv_iload hx hb dX2_walk_38 (lv_at hl 4 rfl) ?_
          refine lv_iload_n hx hb dX2_walk_40 rfl (lv_at hl 1 rfl) ?_
          refine lv_iload_n hx hb dX2_walk_41 rfl (lv_at hl 2 rfl) ?_
          refine ww_args et eq ?_
          refine ww_rv (As := [.int (nI q), .int ov, .int (nI tt)]) (rest := []) ⟨hx, hb, hml, hown, hts⟩ hK hP hD hS hA (metX2_choose l D a d n fW fC fX Z y1 y2 _ q ov tt hn0 hn hN ht0 ht1 hq hZ2) rfl rfl (cwV 3 hts (lw_V q238 q240 qs16 q21 q241) rfl rfl rfl (by decide +kernel) ⟨Nat.le_of_ble_eq_true rfl, Nat.le_of_ble_eq_true rfl⟩) rfl rfl (Nat.le_of_ble_eq_true rfl) hl.1 ⟨Nat.zero_le _, Nat.zero_le _⟩ dX2_walk_42 (fun u_42 H locs h_42 hP hk_42 hS => ?_)
          subst h_42
          have hP : va_P D ww_cl (ww_M a d n fW fC fX Z (ww_portS n fW fC fX q (ww_ain ov tt)) (ww_nextS n fW fC fX q (ww_ain ov tt))) H := hP
          have hD : va_D A (ww_M a d n fW fC fX Z (ww_portS n fW fC fX q (ww_ain ov tt)) (ww_nextS n fW fC fX q (ww_ain ov tt))) := ww_Dad hD rfl
          refine lv_aload_n hx hb dX2_walk_45 rfl (lv_at hl 0 rfl) ?_
          refine ww_gM 6 q166 rfl hx hb hts hown hK hP dX2_walk_46 ?_
          refine lv_istore (lv' := [(5, .int (ww_nextS n fW fC fX q (ww_ain ov tt))), (0, .ref (a 0)), (2, .int ov), (3, .int t), (4, .int (nI kk)), (6, .int (nI i))]) hx hb dX2_walk_49 hl (by decide) rfl (fun ls hl => ?_)
          refine lv_iinc (v := nI (i + 1)) (lv' := [(6, .int (nI (i + 1))), (5, .int (ww_nextS n fW fC fX q (ww_ain ov tt))), (0, .ref (a 0)), (2, .int ov), (3, .int t), (4, .int (nI kk))]) hx hb dX2_walk_51 hl (k := 5) rfl (ww_inc i) (by decide) rfl (fun ls hl => ?_)
          refine lv_goto (tgt := 24) hx hb dX2_walk_54 (by decide) ?_
          exact ih (i + 1) (by omega) (by omega) _ _ _ (by rw [← hx9, ← ef]; exact (ww_wk_s (fun x => ww_q n (ww_nextS n fW fC fX) x ov t) c_28 c_34).symm) (by rcases ww_next_rng (W := fW) (C := fC) (X := fX) (r := q) (a := ww_ain ov tt) hn0 hn with z | ⟨q2, z1, z⟩; exact Or.inl z; exact Or.inr (by rw [z]; exact ⟨nI_pos (by omega), nI_ge z1 (by omega)⟩)) _ _ hP hD hS ls (lv_sub hl [2, 3, 4, 5, 1, 0] rfl)
  refine lv_iload hx hb dX2_walk_0 (lv_at hl 4 rfl) ?_
  refine lv_if_lt (tgt := 16) hx hb dX2_walk_2 (by decide) (fun c_2 => ?_) (fun c_2 => ?_)
  · refine lv_iconst (v := -1) hx hb dX2_walk_16 (by decide) ?_
    exact W.iret hx hb hret (fun t9 ht9 hW9 => ⟨⟨_, (fZ, wp, wr), rfl, (by unfold ww_walkS; rw [if_pos (Or.inl c_2)]), by show va_P _ _ _ t9.heap; rw [ht9]; exact hP⟩, hS.F ht9⟩) hS.2.2 dX2_walk_17
  · refine lv_aload_n hx hb dX2_walk_5 rfl (lv_at hl 0 rfl) ?_
    refine lv_iload_n hx hb dX2_walk_6 rfl (lv_at hl 1 rfl) ?_
    refine lv_iload_n hx hb dX2_walk_7 rfl (lv_at hl 2 rfl) ?_
    refine lv_iload_n hx hb dX2_walk_8 rfl (lv_at hl 3 rfl) ?_
    refine ww_rw (As := [.int r, .int ov, .int t]) (rest := []) ⟨hx, hb, hml, hown, hts⟩ hK hP hD hS hA (metX2_far l D a d n fW fC fX fZ wp wr _ r ov t hn0 hn hN) rfl rfl (cwV 3 hts (lw_V q254 q218 q219 q21 q220) rfl rfl rfl (by decide +kernel) ⟨Nat.le_of_ble_eq_true rfl, Nat.le_of_ble_eq_true rfl⟩) rfl rfl (Nat.le_of_ble_eq_true rfl) hl.1 ⟨Nat.zero_le _, Nat.zero_le _⟩ dX2_walk_9 (fun r_9 u_9 H locs h_9 hP hk_9 hS => ?_)
    obtain ⟨g1, g2⟩ := h_9
    subst g1
    have hP : va_P D ww_cl (ww_M a d n fW fC fX u_9.1 u_9.2.1 u_9.2.2) H := hP
    have hD : va_D A (ww_M a d n fW fC fX u_9.1 u_9.2.1 u_9.2.2) := ww_Dad hD rfl
    refine lv_iconst (v := -1) hx hb dX2_walk_12 (by decide) ?_
    refine lv_icmp_ne (tgt := 18) hx hb dX2_walk_13 (by decide) (fun c_13 => ?_) (fun c_13 => ?_)
    · obtain ⟨kk, hkk, rfl⟩ := nI_of c_2
      have hok : ww_ok n r ov t := Decidable.byContradiction fun z => c_13 (ww_q_no z)
      refine lv_iload_n hx hb dX2_walk_18 rfl (lv_at hl 1 rfl) ?_
      refine lv_istore (lv' := [(5, .int r), (0, .ref (a 0)), (1, .int r), (2, .int ov), (3, .int t), (4, .int (nI kk))]) hx hb dX2_walk_19 hl (by decide) rfl (fun ls hl => ?_)
      refine lv_iconst (v := nI 0) hx hb dX2_walk_21 (by decide) ?_
      refine lv_istore (lv' := [(6, .int (nI 0)), (5, .int r), (0, .ref (a 0)), (1, .int r), (2, .int ov), (3, .int t), (4, .int (nI kk))]) hx hb dX2_walk_22 hl (by decide) rfl (fun ls hl => ?_)
      exact loop kk hkk rfl (by unfold ww_walkS; rw [if_neg (fun z => by rcases z with z | z; exact c_2 z; exact c_13 z), nI_clamp hkk]) hok u_9.1 (g2 hok) (kk + 1) 0 (by omega) (by omega) r u_9.2.1 u_9.2.2 rfl (Or.inr hok.1) _ _ hP hD hS ls (lv_sub hl [2, 4, 5, 6, 1, 0] rfl)
    · refine lv_iconst (v := -1) hx hb dX2_walk_16 (by decide) ?_
      exact W.iret hx hb hret (fun t9 ht9 hW9 => ⟨⟨_, u_9, rfl, (by unfold ww_walkS; rw [if_pos (Or.inr c_13)]), by show va_P _ _ _ t9.heap; rw [ht9]; exact hP⟩, hS.F ht9⟩) hS.2.2 dX2_walk_17
set_option maxHeartbeats 4000000 in
set_option maxRecDepth 100000 in
theorem metX2_reach (l : Launch) (D : va_G) (a : Nat → Nat) (d : Nat → ClassId) (n : Nat) (fW fC fX fZ : Nat → Int32) (wp wr : Int32) (sz : Nat) (r : Int32) (hn0 : 1 ≤ n) (hn : n ≤ 10) (hN : ww_net fW fC fX) : Met l yX2_reach (ws_ yX2_reach cX2_reach 4 (some .int)) ({ frames := 5, cells := 0, slots := 0, locals := 119 }) (va_Pc [.ref (a 0), .int r] (ww_C D (ww_tM d) (ww_M a d n fW fC fX fZ wp wr) sz)) (va_Qi (fun (v : Int32) (u : (Nat → Int32) × Int32 × Int32) => v = ww_reachS n fW fC fX r) (fun (u : (Nat → Int32) × Int32 × Int32) t => va_P D ww_cl (ww_M a d n fW fC fX u.1 u.2.1 u.2.2) t.heap) (va_A (ww_M a d n fW fC fX fZ wp wr) sz)) 0 0 (va_A (ww_M a d n fW fC fX fZ wp wr) sz) := by
  refine Met.ofW (cc := cX2_reach) (maxL := 4) (ret := (some .int)) (by decide) rfl ?_
  intro pr e s m args below meth c s₁ B hml hv
  obtain ⟨rfl, hsz, hP, hK, hD0⟩ := hv
  have hx := B.exec
  have hb := B.bytes
  have hret := B.returns
  have hts := atoms_spec (ws := (ws_ yX2_reach cX2_reach 4 (some .int))) B.pre
  have hts : ∀ w ∈ lw_all, w.before _ s = true := fun w h => hts w (List.mem_cons_of_mem _ h)
  have hown : s.vm.findClass RX2 = some m.cls := findClass_of_methodNamed B.named
  have hlocks := B.notSynchronized
  subst hsz
  have hD := hD0.self (sz := s.heap.size)
  generalize hAe : va_A (ww_M a d n fW fC fX fZ wp wr) s.heap.size = A at hD ⊢
  have hA : ∀ q : Nat, s.heap.size ≤ q → A q := fun q h => by rw [← hAe]; exact Or.inr h
  have hS : va_S A s.heap s.heap [] := va_S.rf
  have hP : va_P D ww_cl (ww_M a d n fW fC fX fZ wp wr) s.heap := hP
  have hl := lv_entry ([.ref (a 0), .int r]) (n := 4) (Nat.le_of_ble_eq_true rfl)
  rw [lg_entry_eq]
  generalize (lg_sl ([.ref (a 0), .int r]) ++ List.replicate (4 - (lg_sl ([.ref (a 0), .int r])).length) Slot.unset).toArray = ls at hl ⊢
  have hl : lv_has ls 4 [(0, .ref (a 0)), (1, .int r)] := hl
  have loop : ww_isR n r → ∀ (j t : Nat), t ≤ n → n + 1 ≤ t + j → ∀ (Z : Nat → Int32) (y1 y2 : Int32), ∀ (H : Heap) (locs : List Loc), va_P D ww_cl (ww_M a d n fW fC fX Z y1 y2) H → va_D A (ww_M a d n fW fC fX Z y1 y2) → va_S A s.heap H locs → ∀ (ls : Array Slot), lv_has ls 4 [(0, .ref (a 0)), (1, .int r), (2, .int (nI (ww_rc (fun t => ww_q n (ww_farS n fW fC fX) r (nI 0) (nI t)) t))), (3, .int (nI t))] → W pr l e (headSpec (ws_ yX2_reach cX2_reach 4 (some .int)) ({ frames := 5, cells := 0, slots := 0, locals := 119 })).room s m ([.ref (a 0), .int r] : List Value).toArray below meth c H locs 0 0 (MQ below (va_Qi (fun (v : Int32) (u : (Nat → Int32) × Int32 × Int32) => v = ww_reachS n fW fC fX r) (fun (u : (Nat → Int32) × Int32 × Int32) t => va_P D ww_cl (ww_M a d n fW fC fX u.1 u.2.1 u.2.2) t.heap) A) ([.ref (a 0), .int r] : List Value).toArray s 0 0 A) (F0 m 14 ls []) := by
    intro hR j
    induction j with
    | zero => intro t h1 h2; exact absurd h2 (by omega)
    | succ j ih =>
      intro t h1 h2 Z y1 y2 H locs hP hD hS ls hl
      refine lv_iload_n hx hb dX2_reach_14 rfl (lv_at hl 3 rfl) ?_
      refine lv_aload_n hx hb dX2_reach_15 rfl (lv_at hl 0 rfl) ?_
      refine ww_gM 0 q160 rfl hx hb hts hown hK hP dX2_reach_16 ?_
      refine ww_icmp_ge (tgt := 47) hx hb dX2_reach_19 (by decide) (fun c_19 => ?_) (fun c_19 => ?_)
      · refine lv_iload_n hx hb dX2_reach_47 rfl (lv_at hl 2 rfl) ?_
        exact W.iret hx hb hret (fun t9 ht9 hW9 => ⟨⟨_, (Z, y1, y2), rfl, (by unfold ww_reachS; rw [if_pos hR, show t = n by omega]), by show va_P _ _ _ t9.heap; rw [ht9]; exact hP⟩, hS.F ht9⟩) hS.2.2 dX2_reach_48
      · refine lv_iload_n hx hb dX2_reach_22 rfl (lv_at hl 2 rfl) ?_
        refine lv_aload_n hx hb dX2_reach_23 rfl (lv_at hl 0 rfl) ?_
        refine lv_iload_n hx hb dX2_reach_24 rfl (lv_at hl 1 rfl) ?_
        refine lv_iconst (v := nI 0) hx hb dX2_reach_25 (by decide) ?_
        refine lv_iload_n hx hb dX2_reach_26 rfl (lv_at hl 3 rfl) ?_
        refine ww_rw (As := [.int r, .int (nI 0), .int (nI t)]) (rest := [.int (nI (ww_rc (fun t => ww_q n (ww_farS n fW fC fX) r (nI 0) (nI t)) t))]) ⟨hx, hb, hml, hown, hts⟩ hK hP hD hS hA (metX2_far l D a d n fW fC fX Z y1 y2 _ r (nI 0) (nI t) hn0 hn hN) rfl rfl (cwV 3 hts (lw_V q254 q218 q219 q21 q220) rfl rfl rfl (by decide +kernel) ⟨Nat.le_of_ble_eq_true rfl, Nat.le_of_ble_eq_true rfl⟩) rfl rfl (Nat.le_of_ble_eq_true rfl) hl.1 ⟨Nat.zero_le _, Nat.zero_le _⟩ dX2_reach_27 (fun r_27 u_27 H locs h_27 hP hk_27 hS => ?_)
        obtain ⟨g1, g2⟩ := h_27
        subst g1
        have hP : va_P D ww_cl (ww_M a d n fW fC fX u_27.1 u_27.2.1 u_27.2.2) H := hP
        have hD : va_D A (ww_M a d n fW fC fX u_27.1 u_27.2.1 u_27.2.2) := ww_Dad hD rfl
        refine lv_iconst (v := -1) hx hb dX2_reach_30 (by decide) ?_
        refine lv_icmp_ne (tgt := 38) hx hb dX2_reach_31 (by decide) (fun c_31 => ?_) (fun c_31 => ?_)
        · refine lv_iconst (v := nI 1) hx hb dX2_reach_38 (by decide) ?_
          refine ww_iadd hx hb dX2_reach_39 ?_
          refine ww_top (y := nI (ww_rc (fun t => ww_q n (ww_farS n fW fC fX) r (nI 0) (nI t)) (t + 1))) (ww_rc_1 (fun t => ww_q n (ww_farS n fW fC fX) r (nI 0) (nI t)) c_31) ?_
          refine lv_istore_n (lv' := [(2, .int (nI (ww_rc (fun t => ww_q n (ww_farS n fW fC fX) r (nI 0) (nI t)) (t + 1)))), (0, .ref (a 0)), (1, .int r), (3, .int (nI t))]) hx hb dX2_reach_40 rfl hl (by decide) rfl (fun ls hl => ?_)
          refine lv_iinc (v := nI (t + 1)) (lv' := [(3, .int (nI (t + 1))), (2, .int (nI (ww_rc (fun t => ww_q n (ww_farS n fW fC fX) r (nI 0) (nI t)) (t + 1)))), (0, .ref (a 0)), (1, .int r)]) hx hb dX2_reach_41 hl (k := 3) rfl (ww_inc t) (by decide) rfl (fun ls hl => ?_)
          refine lv_goto (tgt := 14) hx hb dX2_reach_44 (by decide) ?_
          exact ih (t + 1) (by omega) (by omega) u_27.1 u_27.2.1 u_27.2.2 _ _ hP hD hS ls (lv_sub hl [2, 3, 1, 0] rfl)
        · refine lv_iconst (v := nI 0) hx hb dX2_reach_34 (by decide) ?_
          refine lv_goto (tgt := 39) hx hb dX2_reach_35 (by decide) ?_
          refine ww_iadd hx hb dX2_reach_39 ?_
          refine ww_top (y := nI (ww_rc (fun t => ww_q n (ww_farS n fW fC fX) r (nI 0) (nI t)) (t + 1))) (ww_rc_0 (fun t => ww_q n (ww_farS n fW fC fX) r (nI 0) (nI t)) c_31) ?_
          refine lv_istore_n (lv' := [(2, .int (nI (ww_rc (fun t => ww_q n (ww_farS n fW fC fX) r (nI 0) (nI t)) (t + 1)))), (0, .ref (a 0)), (1, .int r), (3, .int (nI t))]) hx hb dX2_reach_40 rfl hl (by decide) rfl (fun ls hl => ?_)
          refine lv_iinc (v := nI (t + 1)) (lv' := [(3, .int (nI (t + 1))), (2, .int (nI (ww_rc (fun t => ww_q n (ww_farS n fW fC fX) r (nI 0) (nI t)) (t + 1)))), (0, .ref (a 0)), (1, .int r)]) hx hb dX2_reach_41 hl (k := 3) rfl (ww_inc t) (by decide) rfl (fun ls hl => ?_)
          refine lv_goto (tgt := 14) hx hb dX2_reach_44 (by decide) ?_
          exact ih (t + 1) (by omega) (by omega) u_27.1 u_27.2.1 u_27.2.2 _ _ hP hD hS ls (lv_sub hl [2, 3, 1, 0] rfl)
  refine lv_aload_n hx hb dX2_reach_0 rfl (lv_at hl 0 rfl) ?_
  refine lv_iload_n hx hb dX2_reach_1 rfl (lv_at hl 1 rfl) ?_
  refine ww_ro (As := [.int r]) (rest := []) ⟨hx, hb, hml, hown, hts⟩ hK hP (metX2_isRouter l D a d n fW fC fX fZ wp wr r) rfl rfl (cwV 1 hts (lw_V q190 q192 qs10 q21 q193) rfl rfl rfl (by decide +kernel) ⟨Nat.le_of_ble_eq_true rfl, Nat.le_of_ble_eq_true rfl⟩) rfl rfl (Nat.le_of_ble_eq_true rfl) hl.1 ⟨Nat.zero_le _, Nat.zero_le _⟩ dX2_reach_2 (fun r_2 h_2 => ?_)
  have h_2 : r_2 = ww_b2 (ww_isR n r) := h_2
  subst h_2
  refine ww_if_neB (tgt := 10) hx hb dX2_reach_5 (by decide) (fun c_5 => ?_) (fun c_5 => ?_)
  · refine lv_iconst (v := nI 0) hx hb dX2_reach_10 (by decide) ?_
    refine lv_istore_n (lv' := [(2, .int (nI 0)), (0, .ref (a 0)), (1, .int r)]) hx hb dX2_reach_11 rfl hl (by decide) rfl (fun ls hl => ?_)
    refine lv_iconst (v := nI 0) hx hb dX2_reach_12 (by decide) ?_
    refine lv_istore_n (lv' := [(3, .int (nI 0)), (2, .int (nI 0)), (0, .ref (a 0)), (1, .int r)]) hx hb dX2_reach_13 rfl hl (by decide) rfl (fun ls hl => ?_)
    exact loop c_5 (n + 1) 0 (by omega) (by omega) fZ wp wr _ _ hP hD hS ls (lv_sub hl [2, 3, 1, 0] rfl)
  · refine lv_iconst (v := -1) hx hb dX2_reach_8 (by decide) ?_
    exact W.iret hx hb hret (fun t9 ht9 hW9 => ⟨⟨_, (fZ, wp, wr), rfl, (by unfold ww_reachS; rw [if_neg c_5]), by show va_P _ _ _ t9.heap; rw [ht9]; exact hP⟩, hS.F ht9⟩) hS.2.2 dX2_reach_9
set_option maxHeartbeats 4000000 in
set_option maxRecDepth 100000 in
theorem metX2_greatest (l : Launch) (D : va_G) (a : Nat → Nat) (d : Nat → ClassId) (n : Nat) (fW fC fX fZ : Nat → Int32) (wp wr : Int32) (sz : Nat)  (hn0 : 1 ≤ n) (hn : n ≤ 10) (hN : ww_net fW fC fX) : Met l yX2_greatest (ws_ yX2_greatest cX2_greatest 4 (some .int)) ({ frames := 3, cells := 0, slots := 0, locals := 73 }) (va_Pc [.ref (a 0)] (ww_C D (ww_tM d) (ww_M a d n fW fC fX fZ wp wr) sz)) (va_Qi (fun (v : Int32) (u : (Nat → Int32)) => ∃ M, v = nI M ∧ ww_gr n fW fC fX M) (fun (u : (Nat → Int32)) t => va_P D ww_cl (ww_M a d n fW fC fX u wp wr) t.heap) (va_A (ww_M a d n fW fC fX fZ wp wr) sz)) 0 0 (va_A (ww_M a d n fW fC fX fZ wp wr) sz) := by
  refine Met.ofW (cc := cX2_greatest) (maxL := 4) (ret := (some .int)) (by decide) rfl ?_
  intro pr e s m args below meth c s₁ B hml hv
  obtain ⟨rfl, hsz, hP, hK, hD0⟩ := hv
  have hx := B.exec
  have hb := B.bytes
  have hret := B.returns
  have hts := atoms_spec (ws := (ws_ yX2_greatest cX2_greatest 4 (some .int))) B.pre
  have hts : ∀ w ∈ lw_all, w.before _ s = true := fun w h => hts w (List.mem_cons_of_mem _ h)
  have hown : s.vm.findClass RX2 = some m.cls := findClass_of_methodNamed B.named
  have hlocks := B.notSynchronized
  subst hsz
  have hD := hD0.self (sz := s.heap.size)
  generalize hAe : va_A (ww_M a d n fW fC fX fZ wp wr) s.heap.size = A at hD ⊢
  have hA : ∀ q : Nat, s.heap.size ≤ q → A q := fun q h => by rw [← hAe]; exact Or.inr h
  have hS : va_S A s.heap s.heap [] := va_S.rf
  have hP : va_P D ww_cl (ww_M a d n fW fC fX fZ wp wr) s.heap := hP
  have hl := lv_entry ([.ref (a 0)]) (n := 4) (Nat.le_of_ble_eq_true rfl)
  rw [lg_entry_eq]
  generalize (lg_sl ([.ref (a 0)]) ++ List.replicate (4 - (lg_sl ([.ref (a 0)])).length) Slot.unset).toArray = ls at hl ⊢
  have hl : lv_has ls 4 [(0, .ref (a 0))] := hl
  have loopR : ∀ (t : Nat), t < n → ∀ (Z : Nat → Int32), ww_mz n fW fC fX t Z → (∀ (M : Nat), ww_gi n fW fC fX M (fun x y => y < (t + 1) ∨ (y = (t + 1) ∧ x < 0)) → ∀ (H : Heap) (locs : List Loc), va_P D ww_cl (ww_M a d n fW fC fX Z wp wr) H → va_D A (ww_M a d n fW fC fX Z wp wr) → va_S A s.heap H locs → ∀ (ls : Array Slot), lv_has ls 4 [(0, .ref (a 0)), (1, .int (nI M)), (2, .int (nI t))] → W pr l e (headSpec (ws_ yX2_greatest cX2_greatest 4 (some .int)) ({ frames := 3, cells := 0, slots := 0, locals := 73 })).room s m ([.ref (a 0)] : List Value).toArray below meth c H locs 0 0 (MQ below (va_Qi (fun (v : Int32) (u : (Nat → Int32)) => ∃ M, v = nI M ∧ ww_gr n fW fC fX M) (fun (u : (Nat → Int32)) t => va_P D ww_cl (ww_M a d n fW fC fX u wp wr) t.heap) A) ([.ref (a 0)] : List Value).toArray s 0 0 A) (F0 m 66 ls [])) → ∀ (j r : Nat), r ≤ n → n + 1 ≤ r + j → ∀ (M : Nat), ww_gi n fW fC fX M (fun x y => y < t ∨ (y = t ∧ x < r)) → ∀ (H : Heap) (locs : List Loc), va_P D ww_cl (ww_M a d n fW fC fX Z wp wr) H → va_D A (ww_M a d n fW fC fX Z wp wr) → va_S A s.heap H locs → ∀ (ls : Array Slot), lv_has ls 4 [(0, .ref (a 0)), (1, .int (nI M)), (2, .int (nI t)), (3, .int (nI r))] → W pr l e (headSpec (ws_ yX2_greatest cX2_greatest 4 (some .int)) ({ frames := 3, cells := 0, slots := 0, locals := 73 })).room s m ([.ref (a 0)] : List Value).toArray below meth c H locs 0 0 (MQ below (va_Qi (fun (v : Int32) (u : (Nat → Int32)) => ∃ M, v = nI M ∧ ww_gr n fW fC fX M) (fun (u : (Nat → Int32)) t => va_P D ww_cl (ww_M a d n fW fC fX u wp wr) t.heap) A) ([.ref (a 0)] : List Value).toArray s 0 0 A) (F0 m 20 ls []) := by
    intro t ht Z hZ kont j
    induction j with
    | zero => intro r h1 h2; exact absurd h2 (by omega)
    | succ j ih =>
      intro r h1 h2 M hG H locs hP hD hS ls hl
      refine lv_iload_n hx hb dX2_greatest_20 rfl (lv_at hl 3 rfl) ?_
      refine lv_aload_n hx hb dX2_greatest_21 rfl (lv_at hl 0 rfl) ?_
      refine ww_gM 0 q160 rfl hx hb hts hown hK hP dX2_greatest_22 ?_
      refine ww_icmp_ge (tgt := 66) hx hb dX2_greatest_25 (by decide) (fun c_25 => ?_) (fun c_25 => ?_)
      · exact kont M (ww_gi_mono hG (fun x y _ _ z => by omega)) _ _ hP hD hS ls (lv_sub hl [0, 1, 2] rfl)
      · have hz9 := hZ.2.1.1 r c_25
        have hD9 := ww_mz_D hN hn hZ c_25
        have hM9 := hG.1
        refine lv_aload_n hx hb dX2_greatest_28 rfl (lv_at hl 0 rfl) ?_
        refine ww_gM 4 q164 rfl hx hb hts hown hK hP dX2_greatest_29 ?_
        refine lv_iload_n hx hb dX2_greatest_32 rfl (lv_at hl 3 rfl) ?_
        refine ww_iald hx hb hK hP 4 3 rfl rfl dX2_greatest_33 ?_
        refine ww_top (y := nI (ww_z Z r)) (hZ.1 r c_25) ?_
        refine lv_ldc (v := nI 100000) hx hb hown (hts _ q233) dX2_greatest_34 ?_
        refine ww_icmp_ge (tgt := 58) hx hb dX2_greatest_36 (by decide) (fun c_36 => ?_) (fun c_36 => ?_)
        · refine lv_iload_n hx hb dX2_greatest_58 rfl (lv_at hl 1 rfl) ?_
          refine ww_top (y := nI (ww_m2 n fW fC fX M r t)) (congrArg nI (ww_m2_far (hD9.2 c_36)).symm) ?_
          refine lv_istore_n (lv' := [(1, .int (nI (ww_m2 n fW fC fX M r t))), (0, .ref (a 0)), (2, .int (nI t)), (3, .int (nI r))]) hx hb dX2_greatest_59 rfl hl (by decide) rfl (fun ls hl => ?_)
          refine lv_iinc (v := nI (r + 1)) (lv' := [(3, .int (nI (r + 1))), (1, .int (nI (ww_m2 n fW fC fX M r t))), (0, .ref (a 0)), (2, .int (nI t))]) hx hb dX2_greatest_60 hl (k := 3) rfl (ww_inc r) (by decide) rfl (fun ls hl => ?_)
          refine lv_goto (tgt := 20) hx hb dX2_greatest_63 (by decide) ?_
          exact ih (r + 1) (by omega) (by omega) _ (ww_gi_step hG c_25 ht (fun x y _ _ z => by omega)) _ _ hP hD hS ls (lv_sub hl [2, 1, 3, 0] rfl)
        · refine lv_aload_n hx hb dX2_greatest_39 rfl (lv_at hl 0 rfl) ?_
          refine ww_gM 4 q164 rfl hx hb hts hown hK hP dX2_greatest_40 ?_
          refine lv_iload_n hx hb dX2_greatest_43 rfl (lv_at hl 3 rfl) ?_
          refine ww_iald hx hb hK hP 4 3 rfl rfl dX2_greatest_44 ?_
          refine ww_top (y := nI (ww_z Z r)) (hZ.1 r c_25) ?_
          refine lv_iload_n hx hb dX2_greatest_45 rfl (lv_at hl 1 rfl) ?_
          refine ww_icmp_le (tgt := 58) hx hb dX2_greatest_46 (by decide) (fun c_46 => ?_) (fun c_46 => ?_)
          · refine lv_iload_n hx hb dX2_greatest_58 rfl (lv_at hl 1 rfl) ?_
            refine ww_top (y := nI (ww_m2 n fW fC fX M r t)) (congrArg nI (ww_m2_no (by rw [(hD9.1 c_36).2]; exact c_46)).symm) ?_
            refine lv_istore_n (lv' := [(1, .int (nI (ww_m2 n fW fC fX M r t))), (0, .ref (a 0)), (2, .int (nI t)), (3, .int (nI r))]) hx hb dX2_greatest_59 rfl hl (by decide) rfl (fun ls hl => ?_)
            refine lv_iinc (v := nI (r + 1)) (lv' := [(3, .int (nI (r + 1))), (1, .int (nI (ww_m2 n fW fC fX M r t))), (0, .ref (a 0)), (2, .int (nI t))]) hx hb dX2_greatest_60 hl (k := 3) rfl (ww_inc r) (by decide) rfl (fun ls hl => ?_)
            refine lv_goto (tgt := 20) hx hb dX2_greatest_63 (by decide) ?_
            exact ih (r + 1) (by omega) (by omega) _ (ww_gi_step hG c_25 ht (fun x y _ _ z => by omega)) _ _ hP hD hS ls (lv_sub hl [2, 1, 3, 0] rfl)
          · refine lv_aload_n hx hb dX2_greatest_49 rfl (lv_at hl 0 rfl) ?_
            refine ww_gM 4 q164 rfl hx hb hts hown hK hP dX2_greatest_50 ?_
            refine lv_iload_n hx hb dX2_greatest_53 rfl (lv_at hl 3 rfl) ?_
            refine ww_iald hx hb hK hP 4 3 rfl rfl dX2_greatest_54 ?_
            refine ww_top (y := nI (ww_z Z r)) (hZ.1 r c_25) ?_
            refine lv_goto (tgt := 59) hx hb dX2_greatest_55 (by decide) ?_
            refine ww_top (y := nI (ww_m2 n fW fC fX M r t)) (congrArg nI (by rw [← (hD9.1 c_36).2]; exact (ww_m2_yes (by rw [(hD9.1 c_36).2]; have := (hD9.1 c_36).1; omega) (by rw [(hD9.1 c_36).2]; exact c_46)).symm)) ?_
            refine lv_istore_n (lv' := [(1, .int (nI (ww_m2 n fW fC fX M r t))), (0, .ref (a 0)), (2, .int (nI t)), (3, .int (nI r))]) hx hb dX2_greatest_59 rfl hl (by decide) rfl (fun ls hl => ?_)
            refine lv_iinc (v := nI (r + 1)) (lv' := [(3, .int (nI (r + 1))), (1, .int (nI (ww_m2 n fW fC fX M r t))), (0, .ref (a 0)), (2, .int (nI t))]) hx hb dX2_greatest_60 hl (k := 3) rfl (ww_inc r) (by decide) rfl (fun ls hl => ?_)
            refine lv_goto (tgt := 20) hx hb dX2_greatest_63 (by decide) ?_
            exact ih (r + 1) (by omega) (by omega) _ (ww_gi_step hG c_25 ht (fun x y _ _ z => by omega)) _ _ hP hD hS ls (lv_sub hl [2, 1, 3, 0] rfl)
  have loopT : ∀ (j t : Nat), t ≤ n → n + 1 ≤ t + j → ∀ (Z : Nat → Int32) (M : Nat), ww_gi n fW fC fX M (fun x y => y < t ∨ (y = t ∧ x < 0)) → ∀ (H : Heap) (locs : List Loc), va_P D ww_cl (ww_M a d n fW fC fX Z wp wr) H → va_D A (ww_M a d n fW fC fX Z wp wr) → va_S A s.heap H locs → ∀ (ls : Array Slot), lv_has ls 4 [(0, .ref (a 0)), (1, .int (nI M)), (2, .int (nI t))] → W pr l e (headSpec (ws_ yX2_greatest cX2_greatest 4 (some .int)) ({ frames := 3, cells := 0, slots := 0, locals := 73 })).room s m ([.ref (a 0)] : List Value).toArray below meth c H locs 0 0 (MQ below (va_Qi (fun (v : Int32) (u : (Nat → Int32)) => ∃ M, v = nI M ∧ ww_gr n fW fC fX M) (fun (u : (Nat → Int32)) t => va_P D ww_cl (ww_M a d n fW fC fX u wp wr) t.heap) A) ([.ref (a 0)] : List Value).toArray s 0 0 A) (F0 m 4 ls []) := by
    intro j
    induction j with
    | zero => intro t h1 h2; exact absurd h2 (by omega)
    | succ j ih =>
      intro t h1 h2 Z M hG H locs hP hD hS ls hl
      refine lv_iload_n hx hb dX2_greatest_4 rfl (lv_at hl 2 rfl) ?_
      refine lv_aload_n hx hb dX2_greatest_5 rfl (lv_at hl 0 rfl) ?_
      refine ww_gM 0 q160 rfl hx hb hts hown hK hP dX2_greatest_6 ?_
      refine ww_icmp_ge (tgt := 72) hx hb dX2_greatest_9 (by decide) (fun c_9 => ?_) (fun c_9 => ?_)
      · refine lv_iload_n hx hb dX2_greatest_72 rfl (lv_at hl 1 rfl) ?_
        exact W.iret hx hb hret (fun t9 ht9 hW9 => ⟨⟨_, Z, rfl, ⟨M, rfl, ww_gi_end hG (fun x y _ _ => by omega)⟩, by show va_P _ _ _ t9.heap; rw [ht9]; exact hP⟩, hS.F ht9⟩) hS.2.2 dX2_greatest_73
      · refine lv_aload_n hx hb dX2_greatest_12 rfl (lv_at hl 0 rfl) ?_
        refine lv_iconst (v := nI 0) hx hb dX2_greatest_13 (by decide) ?_
        refine lv_iload_n hx hb dX2_greatest_14 rfl (lv_at hl 2 rfl) ?_
        refine ww_rv (As := [.int (nI 0), .int (nI t)]) (rest := []) ⟨hx, hb, hml, hown, hts⟩ hK hP hD hS hA (metX2_reckon l D a d n fW fC fX Z wp wr _ (nI 0) t hn0 hn hN (fun _ => c_9) (fun z => absurd (by decide) z)) rfl rfl (cwV 2 hts (lw_V q225 q227 qs13 q21 q228) rfl rfl rfl (by decide +kernel) ⟨Nat.le_of_ble_eq_true rfl, Nat.le_of_ble_eq_true rfl⟩) rfl rfl (Nat.le_of_ble_eq_true rfl) hl.1 ⟨Nat.zero_le _, Nat.zero_le _⟩ dX2_greatest_15 (fun u_15 H locs h_15 hP hk_15 hS => ?_)
        have hZ9 : ww_mz n fW fC fX t u_15 := by have z := h_15; unfold ww_ain at z; rw [if_pos (by decide)] at z; exact z
        have hP : va_P D ww_cl (ww_M a d n fW fC fX u_15 wp wr) H := hP
        have hD : va_D A (ww_M a d n fW fC fX u_15 wp wr) := ww_Dad hD rfl
        refine lv_iconst (v := nI 0) hx hb dX2_greatest_18 (by decide) ?_
        refine lv_istore_n (lv' := [(3, .int (nI 0)), (0, .ref (a 0)), (1, .int (nI M)), (2, .int (nI t))]) hx hb dX2_greatest_19 rfl hl (by decide) rfl (fun ls hl => ?_)
        have k66 : ∀ (M : Nat), ww_gi n fW fC fX M (fun x y => y < (t + 1) ∨ (y = (t + 1) ∧ x < 0)) → ∀ (H : Heap) (locs : List Loc), va_P D ww_cl (ww_M a d n fW fC fX u_15 wp wr) H → va_D A (ww_M a d n fW fC fX u_15 wp wr) → va_S A s.heap H locs → ∀ (ls : Array Slot), lv_has ls 4 [(0, .ref (a 0)), (1, .int (nI M)), (2, .int (nI t))] → W pr l e (headSpec (ws_ yX2_greatest cX2_greatest 4 (some .int)) ({ frames := 3, cells := 0, slots := 0, locals := 73 })).room s m ([.ref (a 0)] : List Value).toArray below meth c H locs 0 0 (MQ below (va_Qi (fun (v : Int32) (u : (Nat → Int32)) => ∃ M, v = nI M ∧ ww_gr n fW fC fX M) (fun (u : (Nat → Int32)) t => va_P D ww_cl (ww_M a d n fW fC fX u wp wr) t.heap) A) ([.ref (a 0)] : List Value).toArray s 0 0 A) (F0 m 66 ls []) := by
          intro M hG H locs hP hD hS ls hl
          refine lv_iinc (v := nI (t + 1)) (lv' := [(2, .int (nI (t + 1))), (0, .ref (a 0)), (1, .int (nI M))]) hx hb dX2_greatest_66 hl (k := 2) rfl (ww_inc t) (by decide) rfl (fun ls hl => ?_)
          refine lv_goto (tgt := 4) hx hb dX2_greatest_69 (by decide) ?_
          exact ih (t + 1) (by omega) (by omega) u_15 M hG _ _ hP hD hS ls (lv_sub hl [1, 2, 0] rfl)
        exact loopR t c_9 u_15 hZ9 k66 (n + 1) 0 (by omega) (by omega) M hG _ _ hP hD hS ls (lv_sub hl [1, 2, 3, 0] rfl)
  refine lv_iconst (v := nI 0) hx hb dX2_greatest_0 (by decide) ?_
  refine lv_istore_n (lv' := [(1, .int (nI 0)), (0, .ref (a 0))]) hx hb dX2_greatest_1 rfl hl (by decide) rfl (fun ls hl => ?_)
  refine lv_iconst (v := nI 0) hx hb dX2_greatest_2 (by decide) ?_
  refine lv_istore_n (lv' := [(2, .int (nI 0)), (1, .int (nI 0)), (0, .ref (a 0))]) hx hb dX2_greatest_3 rfl hl (by decide) rfl (fun ls hl => ?_)
  exact loopT (n + 1) 0 (by omega) (by omega) fZ 0 ⟨by omega, fun x y _ _ z => by omega, Or.inl rfl⟩ _ _ hP hD hS ls (lv_sub hl [2, 1, 0] rfl)
set_option maxHeartbeats 4000000 in
set_option maxRecDepth 100000 in
theorem metX2_count (l : Launch) (D : va_G) (a : Nat → Nat) (d : Nat → ClassId) (n : Nat) (fW fC fX fZ : Nat → Int32) (wp wr : Int32) (sz : Nat) (k : Int32) (hn0 : 1 ≤ n) (hn : n ≤ 10) (hN : ww_net fW fC fX) : Met l yX2_count (ws_ yX2_count cX2_count 4 (some .int)) ({ frames := 4, cells := 0, slots := 0, locals := 96 }) (va_Pc [.ref (a 0), .int k] (ww_C D (ww_tM d) (ww_M a d n fW fC fX fZ wp wr) sz)) (va_Qi (fun (v : Int32) (u : (Nat → Int32)) => ww_cnt n fW fC fX (nI (ww_cw fW 40)) (nI (ww_cc fX 16)) k v) (fun (u : (Nat → Int32)) t => va_P D ww_cl (ww_M a d n fW fC fX u wp wr) t.heap) (va_A (ww_M a d n fW fC fX fZ wp wr) sz)) 0 0 (va_A (ww_M a d n fW fC fX fZ wp wr) sz) := by
  refine Met.ofW (cc := cX2_count) (maxL := 4) (ret := (some .int)) (by decide) rfl ?_
  intro pr e s m args below meth c s₁ B hml hv
  obtain ⟨rfl, hsz, hP, hK, hD0⟩ := hv
  have hx := B.exec
  have hb := B.bytes
  have hret := B.returns
  have hts := atoms_spec (ws := (ws_ yX2_count cX2_count 4 (some .int))) B.pre
  have hts : ∀ w ∈ lw_all, w.before _ s = true := fun w h => hts w (List.mem_cons_of_mem _ h)
  have hown : s.vm.findClass RX2 = some m.cls := findClass_of_methodNamed B.named
  have hlocks := B.notSynchronized
  subst hsz
  have hD := hD0.self (sz := s.heap.size)
  generalize hAe : va_A (ww_M a d n fW fC fX fZ wp wr) s.heap.size = A at hD ⊢
  have hA : ∀ q : Nat, s.heap.size ≤ q → A q := fun q h => by rw [← hAe]; exact Or.inr h
  have hS : va_S A s.heap s.heap [] := va_S.rf
  have hP : va_P D ww_cl (ww_M a d n fW fC fX fZ wp wr) s.heap := hP
  have hl := lv_entry ([.ref (a 0), .int k]) (n := 4) (Nat.le_of_ble_eq_true rfl)
  rw [lg_entry_eq]
  generalize (lg_sl ([.ref (a 0), .int k]) ++ List.replicate (4 - (lg_sl ([.ref (a 0), .int k])).length) Slot.unset).toArray = ls at hl ⊢
  have hl : lv_has ls 4 [(0, .ref (a 0)), (1, .int k)] := hl
  have loopB1 : k = nI 1 → ∀ (j t : Nat), t ≤ 16 → 17 ≤ t + j → ∀ (H : Heap) (locs : List Loc), va_P D ww_cl (ww_M a d n fW fC fX fZ wp wr) H → va_D A (ww_M a d n fW fC fX fZ wp wr) → va_S A s.heap H locs → ∀ (ls : Array Slot), lv_has ls 4 [(0, .ref (a 0)), (1, .int (nI 1)), (2, .int (nI (ww_cw fW 40))), (3, .int (nI t))] → W pr l e (headSpec (ws_ yX2_count cX2_count 4 (some .int)) ({ frames := 4, cells := 0, slots := 0, locals := 96 })).room s m ([.ref (a 0), .int k] : List Value).toArray below meth c H locs 0 0 (MQ below (va_Qi (fun (v : Int32) (u : (Nat → Int32)) => ww_cnt n fW fC fX (nI (ww_cw fW 40)) (nI (ww_cc fX 16)) k v) (fun (u : (Nat → Int32)) t => va_P D ww_cl (ww_M a d n fW fC fX u wp wr) t.heap) A) ([.ref (a 0), .int k] : List Value).toArray s 0 0 A) (F0 m 72 ls []) := by
    intro ek j
    induction j with
    | zero => intro t h1 h2; exact absurd h2 (by omega)
    | succ j ih =>
      intro t h1 h2 H locs hP hD hS ls hl
      refine lv_iload_n hx hb dX2_count_72 rfl (lv_at hl 3 rfl) ?_
      refine lv_bipush (v := nI 16) hx hb dX2_count_73 (by decide) ?_
      refine ww_icmp_ge (tgt := 106) hx hb dX2_count_75 (by decide) (fun c_75 => ?_) (fun c_75 => ?_)
      · refine lv_iload_n hx hb dX2_count_106 rfl (lv_at hl 2 rfl) ?_
        exact W.iret hx hb hret (fun t9 ht9 hW9 => ⟨⟨_, fZ, rfl, (by rw [ek]; exact ww_cnt_1 rfl), by show va_P _ _ _ t9.heap; rw [ht9]; exact hP⟩, hS.F ht9⟩) hS.2.2 dX2_count_107
      · refine lv_iload_n hx hb dX2_count_78 rfl (lv_at hl 2 rfl) ?_
        refine lv_iload_n hx hb dX2_count_79 rfl (lv_at hl 1 rfl) ?_
        refine lv_iconst (v := nI 2) hx hb dX2_count_80 (by decide) ?_
        refine ww_icmp_ne (tgt := 97) hx hb dX2_count_81 (by decide) (fun c_81 => ?_) (fun c_81 => ?_)
        · refine lv_iconst (v := nI 0) hx hb dX2_count_97 (by decide) ?_
          refine ww_iadd hx hb dX2_count_98 ?_
          refine ww_top (y := nI (ww_cw fW 40)) (rfl) ?_
          refine lv_istore_n (lv' := [(2, .int (nI (ww_cw fW 40))), (0, .ref (a 0)), (1, .int (nI 1)), (3, .int (nI t))]) hx hb dX2_count_99 rfl hl (by decide) rfl (fun ls hl => ?_)
          refine lv_iinc (v := nI (t + 1)) (lv' := [(3, .int (nI (t + 1))), (2, .int (nI (ww_cw fW 40))), (0, .ref (a 0)), (1, .int (nI 1))]) hx hb dX2_count_100 hl (k := 3) rfl (ww_inc t) (by decide) rfl (fun ls hl => ?_)
          refine lv_goto (tgt := 72) hx hb dX2_count_103 (by decide) ?_
          exact ih (t + 1) (by omega) (by omega) _ _ hP hD hS ls (lv_sub hl [2, 3, 1, 0] rfl)
        · exact absurd c_81 (by decide)
  have loopA1 : k = nI 1 → ∀ (j t : Nat), t ≤ 40 → 41 ≤ t + j → ∀ (H : Heap) (locs : List Loc), va_P D ww_cl (ww_M a d n fW fC fX fZ wp wr) H → va_D A (ww_M a d n fW fC fX fZ wp wr) → va_S A s.heap H locs → ∀ (ls : Array Slot), lv_has ls 4 [(0, .ref (a 0)), (1, .int (nI 1)), (2, .int (nI (ww_cw fW t))), (3, .int (nI t))] → W pr l e (headSpec (ws_ yX2_count cX2_count 4 (some .int)) ({ frames := 4, cells := 0, slots := 0, locals := 96 })).room s m ([.ref (a 0), .int k] : List Value).toArray below meth c H locs 0 0 (MQ below (va_Qi (fun (v : Int32) (u : (Nat → Int32)) => ww_cnt n fW fC fX (nI (ww_cw fW 40)) (nI (ww_cc fX 16)) k v) (fun (u : (Nat → Int32)) t => va_P D ww_cl (ww_M a d n fW fC fX u wp wr) t.heap) A) ([.ref (a 0), .int k] : List Value).toArray s 0 0 A) (F0 m 35 ls []) := by
    intro ek j
    induction j with
    | zero => intro t h1 h2; exact absurd h2 (by omega)
    | succ j ih =>
      intro t h1 h2 H locs hP hD hS ls hl
      refine lv_iload_n hx hb dX2_count_35 rfl (lv_at hl 3 rfl) ?_
      refine lv_bipush (v := nI 40) hx hb dX2_count_36 (by decide) ?_
      refine ww_icmp_ge (tgt := 70) hx hb dX2_count_38 (by decide) (fun c_38 => ?_) (fun c_38 => ?_)
      · refine lv_iconst (v := nI 0) hx hb dX2_count_70 (by decide) ?_
        refine lv_istore_n (lv' := [(3, .int (nI 0)), (0, .ref (a 0)), (1, .int (nI 1)), (2, .int (nI (ww_cw fW t)))]) hx hb dX2_count_71 rfl hl (by decide) rfl (fun ls hl => ?_)
        have e40 : t = 40 := by omega
        subst e40
        exact loopB1 ek 17 0 (by omega) (by omega) _ _ hP hD hS ls (lv_sub hl [1, 2, 3, 0] rfl)
      · refine lv_iload_n hx hb dX2_count_41 rfl (lv_at hl 2 rfl) ?_
        refine lv_iload_n hx hb dX2_count_42 rfl (lv_at hl 1 rfl) ?_
        refine lv_iconst (v := nI 1) hx hb dX2_count_43 (by decide) ?_
        refine ww_icmp_ne (tgt := 61) hx hb dX2_count_44 (by decide) (fun c_44 => ?_) (fun c_44 => ?_)
        · exact absurd rfl c_44
        · refine lv_aload_n hx hb dX2_count_47 rfl (lv_at hl 0 rfl) ?_
          refine ww_gM 1 q161 rfl hx hb hts hown hK hP dX2_count_48 ?_
          refine lv_iload_n hx hb dX2_count_51 rfl (lv_at hl 3 rfl) ?_
          refine ww_iald hx hb hK hP 1 0 rfl rfl dX2_count_52 ?_
          refine lv_iconst (v := -1) hx hb dX2_count_53 (by decide) ?_
          refine lv_icmp_eq (tgt := 61) hx hb dX2_count_54 (by decide) (fun c_54 => ?_) (fun c_54 => ?_)
          · refine lv_iconst (v := nI 0) hx hb dX2_count_61 (by decide) ?_
            refine ww_iadd hx hb dX2_count_62 ?_
            refine ww_top (y := nI (ww_cw fW (t + 1))) (ww_cw_0 fW c_54) ?_
            refine lv_istore_n (lv' := [(2, .int (nI (ww_cw fW (t + 1)))), (0, .ref (a 0)), (1, .int (nI 1)), (3, .int (nI t))]) hx hb dX2_count_63 rfl hl (by decide) rfl (fun ls hl => ?_)
            refine lv_iinc (v := nI (t + 1)) (lv' := [(3, .int (nI (t + 1))), (2, .int (nI (ww_cw fW (t + 1)))), (0, .ref (a 0)), (1, .int (nI 1))]) hx hb dX2_count_64 hl (k := 3) rfl (ww_inc t) (by decide) rfl (fun ls hl => ?_)
            refine lv_goto (tgt := 35) hx hb dX2_count_67 (by decide) ?_
            exact ih (t + 1) (by omega) (by omega) _ _ hP hD hS ls (lv_sub hl [2, 3, 1, 0] rfl)
          · refine lv_iconst (v := nI 1) hx hb dX2_count_57 (by decide) ?_
            refine lv_goto (tgt := 62) hx hb dX2_count_58 (by decide) ?_
            refine ww_iadd hx hb dX2_count_62 ?_
            refine ww_top (y := nI (ww_cw fW (t + 1))) (ww_cw_1 fW c_54) ?_
            refine lv_istore_n (lv' := [(2, .int (nI (ww_cw fW (t + 1)))), (0, .ref (a 0)), (1, .int (nI 1)), (3, .int (nI t))]) hx hb dX2_count_63 rfl hl (by decide) rfl (fun ls hl => ?_)
            refine lv_iinc (v := nI (t + 1)) (lv' := [(3, .int (nI (t + 1))), (2, .int (nI (ww_cw fW (t + 1)))), (0, .ref (a 0)), (1, .int (nI 1))]) hx hb dX2_count_64 hl (k := 3) rfl (ww_inc t) (by decide) rfl (fun ls hl => ?_)
            refine lv_goto (tgt := 35) hx hb dX2_count_67 (by decide) ?_
            exact ih (t + 1) (by omega) (by omega) _ _ hP hD hS ls (lv_sub hl [2, 3, 1, 0] rfl)
  have loopB2 : k = nI 2 → ∀ (j t : Nat), t ≤ 16 → 17 ≤ t + j → ∀ (H : Heap) (locs : List Loc), va_P D ww_cl (ww_M a d n fW fC fX fZ wp wr) H → va_D A (ww_M a d n fW fC fX fZ wp wr) → va_S A s.heap H locs → ∀ (ls : Array Slot), lv_has ls 4 [(0, .ref (a 0)), (1, .int (nI 2)), (2, .int (nI (ww_cc fX t))), (3, .int (nI t))] → W pr l e (headSpec (ws_ yX2_count cX2_count 4 (some .int)) ({ frames := 4, cells := 0, slots := 0, locals := 96 })).room s m ([.ref (a 0), .int k] : List Value).toArray below meth c H locs 0 0 (MQ below (va_Qi (fun (v : Int32) (u : (Nat → Int32)) => ww_cnt n fW fC fX (nI (ww_cw fW 40)) (nI (ww_cc fX 16)) k v) (fun (u : (Nat → Int32)) t => va_P D ww_cl (ww_M a d n fW fC fX u wp wr) t.heap) A) ([.ref (a 0), .int k] : List Value).toArray s 0 0 A) (F0 m 72 ls []) := by
    intro ek j
    induction j with
    | zero => intro t h1 h2; exact absurd h2 (by omega)
    | succ j ih =>
      intro t h1 h2 H locs hP hD hS ls hl
      refine lv_iload_n hx hb dX2_count_72 rfl (lv_at hl 3 rfl) ?_
      refine lv_bipush (v := nI 16) hx hb dX2_count_73 (by decide) ?_
      refine ww_icmp_ge (tgt := 106) hx hb dX2_count_75 (by decide) (fun c_75 => ?_) (fun c_75 => ?_)
      · refine lv_iload_n hx hb dX2_count_106 rfl (lv_at hl 2 rfl) ?_
        exact W.iret hx hb hret (fun t9 ht9 hW9 => ⟨⟨_, fZ, rfl, (by rw [ek, show t = 16 by omega]; exact ww_cnt_2 rfl), by show va_P _ _ _ t9.heap; rw [ht9]; exact hP⟩, hS.F ht9⟩) hS.2.2 dX2_count_107
      · refine lv_iload_n hx hb dX2_count_78 rfl (lv_at hl 2 rfl) ?_
        refine lv_iload_n hx hb dX2_count_79 rfl (lv_at hl 1 rfl) ?_
        refine lv_iconst (v := nI 2) hx hb dX2_count_80 (by decide) ?_
        refine ww_icmp_ne (tgt := 97) hx hb dX2_count_81 (by decide) (fun c_81 => ?_) (fun c_81 => ?_)
        · exact absurd rfl c_81
        · refine lv_aload_n hx hb dX2_count_84 rfl (lv_at hl 0 rfl) ?_
          refine ww_gM 3 q163 rfl hx hb hts hown hK hP dX2_count_85 ?_
          refine lv_iload_n hx hb dX2_count_88 rfl (lv_at hl 3 rfl) ?_
          refine ww_zald hx hb hK hP 3 2 rfl rfl dX2_count_89 ?_
          refine lv_if_eq (tgt := 97) hx hb dX2_count_90 (by decide) (fun c_90 => ?_) (fun c_90 => ?_)
          · refine lv_iconst (v := nI 0) hx hb dX2_count_97 (by decide) ?_
            refine ww_iadd hx hb dX2_count_98 ?_
            refine ww_top (y := nI (ww_cc fX (t + 1))) (ww_cc_0 fX c_90) ?_
            refine lv_istore_n (lv' := [(2, .int (nI (ww_cc fX (t + 1)))), (0, .ref (a 0)), (1, .int (nI 2)), (3, .int (nI t))]) hx hb dX2_count_99 rfl hl (by decide) rfl (fun ls hl => ?_)
            refine lv_iinc (v := nI (t + 1)) (lv' := [(3, .int (nI (t + 1))), (2, .int (nI (ww_cc fX (t + 1)))), (0, .ref (a 0)), (1, .int (nI 2))]) hx hb dX2_count_100 hl (k := 3) rfl (ww_inc t) (by decide) rfl (fun ls hl => ?_)
            refine lv_goto (tgt := 72) hx hb dX2_count_103 (by decide) ?_
            exact ih (t + 1) (by omega) (by omega) _ _ hP hD hS ls (lv_sub hl [2, 3, 1, 0] rfl)
          · refine lv_iconst (v := nI 1) hx hb dX2_count_93 (by decide) ?_
            refine lv_goto (tgt := 98) hx hb dX2_count_94 (by decide) ?_
            refine ww_iadd hx hb dX2_count_98 ?_
            refine ww_top (y := nI (ww_cc fX (t + 1))) (ww_cc_1 fX c_90) ?_
            refine lv_istore_n (lv' := [(2, .int (nI (ww_cc fX (t + 1)))), (0, .ref (a 0)), (1, .int (nI 2)), (3, .int (nI t))]) hx hb dX2_count_99 rfl hl (by decide) rfl (fun ls hl => ?_)
            refine lv_iinc (v := nI (t + 1)) (lv' := [(3, .int (nI (t + 1))), (2, .int (nI (ww_cc fX (t + 1)))), (0, .ref (a 0)), (1, .int (nI 2))]) hx hb dX2_count_100 hl (k := 3) rfl (ww_inc t) (by decide) rfl (fun ls hl => ?_)
            refine lv_goto (tgt := 72) hx hb dX2_count_103 (by decide) ?_
            exact ih (t + 1) (by omega) (by omega) _ _ hP hD hS ls (lv_sub hl [2, 3, 1, 0] rfl)
  have loopA2 : k = nI 2 → ∀ (j t : Nat), t ≤ 40 → 41 ≤ t + j → ∀ (H : Heap) (locs : List Loc), va_P D ww_cl (ww_M a d n fW fC fX fZ wp wr) H → va_D A (ww_M a d n fW fC fX fZ wp wr) → va_S A s.heap H locs → ∀ (ls : Array Slot), lv_has ls 4 [(0, .ref (a 0)), (1, .int (nI 2)), (2, .int (nI 0)), (3, .int (nI t))] → W pr l e (headSpec (ws_ yX2_count cX2_count 4 (some .int)) ({ frames := 4, cells := 0, slots := 0, locals := 96 })).room s m ([.ref (a 0), .int k] : List Value).toArray below meth c H locs 0 0 (MQ below (va_Qi (fun (v : Int32) (u : (Nat → Int32)) => ww_cnt n fW fC fX (nI (ww_cw fW 40)) (nI (ww_cc fX 16)) k v) (fun (u : (Nat → Int32)) t => va_P D ww_cl (ww_M a d n fW fC fX u wp wr) t.heap) A) ([.ref (a 0), .int k] : List Value).toArray s 0 0 A) (F0 m 35 ls []) := by
    intro ek j
    induction j with
    | zero => intro t h1 h2; exact absurd h2 (by omega)
    | succ j ih =>
      intro t h1 h2 H locs hP hD hS ls hl
      refine lv_iload_n hx hb dX2_count_35 rfl (lv_at hl 3 rfl) ?_
      refine lv_bipush (v := nI 40) hx hb dX2_count_36 (by decide) ?_
      refine ww_icmp_ge (tgt := 70) hx hb dX2_count_38 (by decide) (fun c_38 => ?_) (fun c_38 => ?_)
      · refine lv_iconst (v := nI 0) hx hb dX2_count_70 (by decide) ?_
        refine lv_istore_n (lv' := [(3, .int (nI 0)), (0, .ref (a 0)), (1, .int (nI 2)), (2, .int (nI 0))]) hx hb dX2_count_71 rfl hl (by decide) rfl (fun ls hl => ?_)
        exact loopB2 ek 17 0 (by omega) (by omega) _ _ hP hD hS ls (lv_sub hl [1, 2, 3, 0] rfl)
      · refine lv_iload_n hx hb dX2_count_41 rfl (lv_at hl 2 rfl) ?_
        refine lv_iload_n hx hb dX2_count_42 rfl (lv_at hl 1 rfl) ?_
        refine lv_iconst (v := nI 1) hx hb dX2_count_43 (by decide) ?_
        refine ww_icmp_ne (tgt := 61) hx hb dX2_count_44 (by decide) (fun c_44 => ?_) (fun c_44 => ?_)
        · refine lv_iconst (v := nI 0) hx hb dX2_count_61 (by decide) ?_
          refine ww_iadd hx hb dX2_count_62 ?_
          refine ww_top (y := nI 0) (rfl) ?_
          refine lv_istore_n (lv' := [(2, .int (nI 0)), (0, .ref (a 0)), (1, .int (nI 2)), (3, .int (nI t))]) hx hb dX2_count_63 rfl hl (by decide) rfl (fun ls hl => ?_)
          refine lv_iinc (v := nI (t + 1)) (lv' := [(3, .int (nI (t + 1))), (2, .int (nI 0)), (0, .ref (a 0)), (1, .int (nI 2))]) hx hb dX2_count_64 hl (k := 3) rfl (ww_inc t) (by decide) rfl (fun ls hl => ?_)
          refine lv_goto (tgt := 35) hx hb dX2_count_67 (by decide) ?_
          exact ih (t + 1) (by omega) (by omega) _ _ hP hD hS ls (lv_sub hl [2, 3, 1, 0] rfl)
        · exact absurd c_44 (by decide)
  refine lv_iload_n hx hb dX2_count_0 rfl (lv_at hl 1 rfl) ?_
  refine lv_if_ne (tgt := 9) hx hb dX2_count_1 (by decide) (fun c_1 => ?_) (fun c_1 => ?_)
  · refine lv_iload_n hx hb dX2_count_9 rfl (lv_at hl 1 rfl) ?_
    refine lv_iconst (v := nI 3) hx hb dX2_count_10 (by decide) ?_
    refine lv_icmp_ne (tgt := 19) hx hb dX2_count_11 (by decide) (fun c_11 => ?_) (fun c_11 => ?_)
    · refine lv_iload_n hx hb dX2_count_19 rfl (lv_at hl 1 rfl) ?_
      refine lv_iconst (v := nI 1) hx hb dX2_count_20 (by decide) ?_
      refine lv_icmp_eq (tgt := 31) hx hb dX2_count_21 (by decide) (fun c_21 => ?_) (fun c_21 => ?_)
      · refine lv_iconst (v := nI 0) hx hb dX2_count_31 (by decide) ?_
        refine lv_istore_n (lv' := [(2, .int (nI 0)), (0, .ref (a 0)), (1, .int k)]) hx hb dX2_count_32 rfl hl (by decide) rfl (fun ls hl => ?_)
        refine lv_iconst (v := nI 0) hx hb dX2_count_33 (by decide) ?_
        refine lv_istore_n (lv' := [(3, .int (nI 0)), (2, .int (nI 0)), (0, .ref (a 0)), (1, .int k)]) hx hb dX2_count_34 rfl hl (by decide) rfl (fun ls hl => ?_)
        subst c_21
        exact loopA1 rfl 41 0 (by omega) (by omega) _ _ hP hD hS ls (lv_sub hl [2, 3, 1, 0] rfl)
      · refine lv_iload_n hx hb dX2_count_24 rfl (lv_at hl 1 rfl) ?_
        refine lv_iconst (v := nI 2) hx hb dX2_count_25 (by decide) ?_
        refine lv_icmp_eq (tgt := 31) hx hb dX2_count_26 (by decide) (fun c_26 => ?_) (fun c_26 => ?_)
        · refine lv_iconst (v := nI 0) hx hb dX2_count_31 (by decide) ?_
          refine lv_istore_n (lv' := [(2, .int (nI 0)), (0, .ref (a 0)), (1, .int k)]) hx hb dX2_count_32 rfl hl (by decide) rfl (fun ls hl => ?_)
          refine lv_iconst (v := nI 0) hx hb dX2_count_33 (by decide) ?_
          refine lv_istore_n (lv' := [(3, .int (nI 0)), (2, .int (nI 0)), (0, .ref (a 0)), (1, .int k)]) hx hb dX2_count_34 rfl hl (by decide) rfl (fun ls hl => ?_)
          subst c_26
          exact loopA2 rfl 41 0 (by omega) (by omega) _ _ hP hD hS ls (lv_sub hl [2, 3, 1, 0] rfl)
        · refine lv_iconst (v := -1) hx hb dX2_count_29 (by decide) ?_
          exact W.iret hx hb hret (fun t9 ht9 hW9 => ⟨⟨_, fZ, rfl, (ww_cnt_out (fun z => c_1 (by rw [z, nI_0])) c_21 c_26 c_11), by show va_P _ _ _ t9.heap; rw [ht9]; exact hP⟩, hS.F ht9⟩) hS.2.2 dX2_count_30
    · refine lv_aload_n hx hb dX2_count_14 rfl (lv_at hl 0 rfl) ?_
      refine ww_rw (As := []) (rest := []) ⟨hx, hb, hml, hown, hts⟩ hK hP hD hS hA (metX2_greatest l D a d n fW fC fX fZ wp wr _ hn0 hn hN) rfl rfl (cwV 0 hts (lw_V q263 q265 qs17 q21 q266) rfl rfl rfl (by decide +kernel) ⟨Nat.le_of_ble_eq_true rfl, Nat.le_of_ble_eq_true rfl⟩) rfl rfl (Nat.le_of_ble_eq_true rfl) hl.1 ⟨Nat.zero_le _, Nat.zero_le _⟩ dX2_count_15 (fun r_15 u_15 H locs h_15 hP hk_15 hS => ?_)
      obtain ⟨M, g0, g1⟩ := h_15
      subst g0
      have hP : va_P D ww_cl (ww_M a d n fW fC fX u_15 wp wr) H := hP
      have hD : va_D A (ww_M a d n fW fC fX u_15 wp wr) := ww_Dad hD rfl
      exact W.iret hx hb hret (fun t9 ht9 hW9 => ⟨⟨_, u_15, rfl, (by rw [c_11]; exact ww_cnt_3 ⟨M, rfl, g1⟩), by show va_P _ _ _ t9.heap; rw [ht9]; exact hP⟩, hS.F ht9⟩) hS.2.2 dX2_count_18
  · refine lv_aload_n hx hb dX2_count_4 rfl (lv_at hl 0 rfl) ?_
    refine ww_gM 0 q160 rfl hx hb hts hown hK hP dX2_count_5 ?_
    exact W.iret hx hb hret (fun t9 ht9 hW9 => ⟨⟨_, fZ, rfl, (by rw [show k = nI 0 by rw [c_1, nI_0]]; exact ww_cnt_0 rfl), by show va_P _ _ _ t9.heap; rw [ht9]; exact hP⟩, hS.F ht9⟩) hS.2.2 dX2_count_8
end
section
/-! the two constructors -/
/-- the number of routers out of what is asked for -/
def ww_rt (k : Int32) : Nat := if k < nI 1 then 1 else if k ≤ nI 10 then k.toNatClampNeg else 10
/-- -1 below k, 0 above -/
def ww_mk (k : Nat) : Nat → Int32 := fun j => if j < k then -1 else 0
theorem ww_mk_0 : ww_mk 0 = fun _ => 0 := by
  funext j
  unfold ww_mk
  rw [if_neg (by omega)]
theorem ww_mk_upd {k : Nat} : upd (ww_mk k) k (-1) = ww_mk (k + 1) := by
  funext j
  unfold ww_mk
  by_cases e : j = k
  · subst e
    rw [pk_us, if_pos (by omega)]
  · rw [pk_un e]
    by_cases h : j < k
    · rw [if_pos h, if_pos (by omega)]
    · rw [if_neg h, if_neg (by omega)]
theorem ww_rt_lo {k : Int32} (h : ¬ nI 1 ≤ k) : nI 1 = nI (ww_rt k) := by
  unfold ww_rt
  rw [if_pos (ww_not_le.mp h)]
theorem ww_rt_nat {k : Int32} (h : nI 1 ≤ k) (h2 : k ≤ nI 10) : k = nI k.toNatClampNeg ∧ 1 ≤ k.toNatClampNeg ∧ k.toNatClampNeg ≤ 10 := by
  obtain ⟨j, hj, rfl⟩ := nI_of2 (x := k) (M := nI 10) (n := 10) (by decide) (fun z => by
    rw [Int32.le_iff_toInt_le] at h
    rw [Int32.lt_iff_toInt_lt] at z
    have : (nI 1).toInt = 1 := by decide
    have : (0 : Int32).toInt = 0 := by decide
    omega) h2
  rw [nI_leI (by decide) (by omega)] at h
  rw [nI_clamp (by omega)]
  exact ⟨rfl, h, hj⟩
theorem ww_rt_in {k : Int32} (h : nI 1 ≤ k) (h2 : k ≤ nI 10) : k = nI (ww_rt k) := by
  unfold ww_rt
  rw [if_neg (ww_not_lt.mpr h), if_pos h2]
  exact (ww_rt_nat h h2).1
theorem ww_rt_hi {k : Int32} (h : nI 1 ≤ k) (h2 : ¬ k ≤ nI 10) : nI 10 = nI (ww_rt k) := by
  unfold ww_rt
  rw [if_neg (ww_not_lt.mpr h), if_neg h2]
theorem ww_rt_rng (k : Int32) : 1 ≤ ww_rt k ∧ ww_rt k ≤ 10 := by
  unfold ww_rt
  by_cases h : k < nI 1
  · rw [if_pos h]; omega
  · rw [if_neg h]
    by_cases h2 : k ≤ nI 10
    · rw [if_pos h2]
      exact (ww_rt_nat (ww_not_lt.mp h) h2).2
    · rw [if_neg h2]; omega
theorem ww_rt_x (k : Int32) : (if nI 1 < (if k < nI 10 then k else nI 10) then (if k < nI 10 then k else nI 10) else nI 1) = nI (ww_rt k) := by
  have h1 : (nI 1).toInt = 1 := by decide
  have h10 : (nI 10).toInt = 10 := by decide
  by_cases h : nI 1 ≤ k
  · by_cases h2 : k ≤ nI 10
    · obtain ⟨e, e1, e2⟩ := ww_rt_nat h h2
      have e3 := ww_rt_in h h2
      rw [← e3]
      generalize k.toNatClampNeg = j at e e1 e2
      subst e
      have hm : (if nI j < nI 10 then nI j else nI 10) = nI j := by
        by_cases c : j < 10
        · exact if_pos (nI_lt c (by decide))
        · rw [if_neg (nI_nlt (by omega) (by omega)), show j = 10 by omega]
      rw [hm]
      by_cases c2 : 1 < j
      · exact if_pos (nI_lt c2 (by omega))
      · rw [if_neg (nI_nlt (by omega) (by decide)), show j = 1 by omega]
    · have hm : (if k < nI 10 then k else nI 10) = nI 10 := if_neg (fun z => h2 (by
        rw [Int32.lt_iff_toInt_lt] at z
        rw [Int32.le_iff_toInt_le]
        omega))
      rw [hm, if_pos (by decide)]
      exact ww_rt_hi h h2
  · have h3 := ww_not_le.mp h
    rw [Int32.lt_iff_toInt_lt] at h3
    have hm : (if k < nI 10 then k else nI 10) = k := if_pos (by
      rw [Int32.lt_iff_toInt_lt]
      omega)
    have hz : ¬ nI 1 < k := fun z => by
      rw [Int32.lt_iff_toInt_lt] at z
      omega
    rw [hm, if_neg hz]
    exact ww_rt_lo h
set_option maxHeartbeats 4000000 in
set_option maxRecDepth 100000 in
/-- the object is made: its arrays, its number of routers -/
theorem metX1_init (l : Launch) (D : va_G) (h0 sz : Nat) (kp : Int32) : Met l yX1_init (ws_ yX1_init cX1_init 3 none) ({ frames := 1, cells := 6, slots := 776, locals := 15 }) (va_Pc [.ref h0, .int kp] (fun U => U.heap.size = sz ∧ va_P D ww_cl [(h0, .inr (0, [.int 0, .null, .null, .null, .null, .null, .null, .int 0, .int 0, .int 0]))] U.heap ∧ va_K D ww_cl [] U ∧ va_D (fun _ => True) [(h0, .inr (0, [.int 0, .null, .null, .null, .null, .null, .null, .int 0, .int 0, .int 0]))])) (va_Qv (fun (u : (Nat → Nat) × (Nat → ClassId)) => u.1 0 = h0) (fun u t => va_P D ww_cl (ww_X u.1 u.2 (ww_rt kp) (ww_mk 40) (fun _ => 0) (ww_mk 160) (fun _ => 0) (fun _ => 0) (fun _ => 0) (nI 1) 0 0) t.heap ∧ va_K D ww_cl (ww_tX u.2) t ∧ va_D (va_A [(h0, .inr (0, [.int 0, .null, .null, .null, .null, .null, .null, .int 0, .int 0, .int 0]))] sz) (ww_X u.1 u.2 (ww_rt kp) (ww_mk 40) (fun _ => 0) (ww_mk 160) (fun _ => 0) (fun _ => 0) (fun _ => 0) (nI 1) 0 0)) (va_A [(h0, .inr (0, [.int 0, .null, .null, .null, .null, .null, .null, .int 0, .int 0, .int 0]))] sz)) 6 776 (va_A [(h0, .inr (0, [.int 0, .null, .null, .null, .null, .null, .null, .int 0, .int 0, .int 0]))] sz) := by
  refine Met.ofW (cc := cX1_init) (maxL := 3) (ret := none) (by decide) rfl ?_
  intro pr e s m args below meth c s₁ B hml hv
  obtain ⟨rfl, hsz, hP, hK, hD0⟩ := hv
  have hx := B.exec
  have hb := B.bytes
  have hret := B.returns
  have hts := atoms_spec (ws := (ws_ yX1_init cX1_init 3 none)) B.pre
  have hts : ∀ w ∈ lw_all, w.before _ s = true := fun w h => hts w (List.mem_cons_of_mem _ h)
  have hown : s.vm.findClass RX1 = some m.cls := findClass_of_methodNamed B.named
  have hlocks := B.notSynchronized
  have hin : meth.name = "<init>" := (name_of_methodNamed B.named B.method).1
  subst hsz
  have hD := hD0.self (sz := s.heap.size)
  generalize hAe : va_A [(h0, .inr (0, [.int 0, .null, .null, .null, .null, .null, .null, .int 0, .int 0, .int 0]))] s.heap.size = A at hD ⊢
  have hA : ∀ q : Nat, s.heap.size ≤ q → A q := fun q h => by rw [← hAe]; exact Or.inr h
  have hS : va_S A s.heap s.heap [] := va_S.rf
  have hP : va_P D ww_cl [(h0, .inr (0, [.int 0, .null, .null, .null, .null, .null, .null, .int 0, .int 0, .int 0]))] s.heap := hP
  have hl := lv_entry ([.ref h0, .int kp]) (n := 3) (Nat.le_of_ble_eq_true rfl)
  rw [lg_entry_eq]
  generalize (lg_sl ([.ref h0, .int kp]) ++ List.replicate (3 - (lg_sl ([.ref h0, .int kp])).length) Slot.unset).toArray = ls at hl ⊢
  have hl : lv_has ls 3 [(0, .ref h0), (1, .int kp)] := hl
  have loopP : ∀ (a : Nat → Nat) (d : Nat → ClassId), a 0 = h0 → va_K D ww_cl (ww_tX d) s → ∀ (j k : Nat), k ≤ 160 → 161 ≤ k + j → ∀ (H : Heap) (locs : List Loc), va_P D ww_cl (ww_X a d (ww_rt kp) (ww_mk 40) (fun _ => 0) (ww_mk k) (fun _ => 0) (fun _ => 0) (fun _ => 0) (nI 1) 0 0) H → va_D A (ww_X a d (ww_rt kp) (ww_mk 40) (fun _ => 0) (ww_mk k) (fun _ => 0) (fun _ => 0) (fun _ => 0) (nI 1) 0 0) → va_S A s.heap H locs → ∀ (ls : Array Slot), lv_has ls 3 [(0, .ref (a 0)), (2, .int (nI k))] → W pr l e (headSpec (ws_ yX1_init cX1_init 3 none) ({ frames := 1, cells := 6, slots := 776, locals := 15 })).room s m ([.ref h0, .int kp] : List Value).toArray below meth c H locs 6 776 (MQ below (va_Qv (fun (u : (Nat → Nat) × (Nat → ClassId)) => u.1 0 = h0) (fun u t => va_P D ww_cl (ww_X u.1 u.2 (ww_rt kp) (ww_mk 40) (fun _ => 0) (ww_mk 160) (fun _ => 0) (fun _ => 0) (fun _ => 0) (nI 1) 0 0) t.heap ∧ va_K D ww_cl (ww_tX u.2) t ∧ va_D A (ww_X u.1 u.2 (ww_rt kp) (ww_mk 40) (fun _ => 0) (ww_mk 160) (fun _ => 0) (fun _ => 0) (fun _ => 0) (nI 1) 0 0)) A) ([.ref h0, .int kp] : List Value).toArray s 6 776 A) (F0 m 97 ls []) := by
    intro a d ea hK j
    induction j with
    | zero => intro k h1 h2; exact absurd h2 (by omega)
    | succ j ih =>
      intro k h1 h2 H locs hP hD hS ls hl
      refine lv_iload_n hx hb dX1_init_97 rfl (lv_at hl 1 rfl) ?_
      refine lv_sipush (v := nI 160) hx hb dX1_init_98 (by decide) ?_
      refine ww_icmp_ge (tgt := 117) hx hb dX1_init_101 (by decide) (fun c_101 => ?_) (fun c_101 => ?_)
      · have ek : k = 160 := by omega
        subst ek
        exact W.vret hx hb hret (fun t9 ht9 hW9 => ⟨⟨(a, d), rfl, ea, by show va_P _ _ _ t9.heap; rw [ht9]; exact hP, va_K.moved hW9.alike hK, hD⟩, hS.F ht9⟩) hS.2.2 dX1_init_117
      · refine lv_aload_n hx hb dX1_init_104 rfl (lv_at hl 0 rfl) ?_
        refine ww_gX 3 q39 rfl hx hb hts hown hK hP dX1_init_105 ?_
        refine lv_iload_n hx hb dX1_init_108 rfl (lv_at hl 1 rfl) ?_
        refine lv_iconst (v := -1) hx hb dX1_init_109 (by decide) ?_
        refine ww_iast hx hb hK hP hD hS 3 2 rfl rfl dX1_init_110 (fun H locs hP hD hS => ?_)
        have hP : va_P D ww_cl (ww_X a d (ww_rt kp) (ww_mk 40) (fun _ => 0) (upd (ww_mk k) k (-1)) (fun _ => 0) (fun _ => 0) (fun _ => 0) (nI 1) 0 0) H := hP
        have hD : va_D A (ww_X a d (ww_rt kp) (ww_mk 40) (fun _ => 0) (upd (ww_mk k) k (-1)) (fun _ => 0) (fun _ => 0) (fun _ => 0) (nI 1) 0 0) := hD
        refine lv_iinc (v := nI (k + 1)) (lv' := [(2, .int (nI (k + 1))), (0, .ref (a 0))]) hx hb dX1_init_111 hl (k := 1) rfl (ww_inc k) (by decide) rfl (fun ls hl => ?_)
        refine lv_goto (tgt := 97) hx hb dX1_init_114 (by decide) ?_
        exact ih (k + 1) (by omega) (by omega) _ _ (by rw [← ww_mk_upd (k := k)]; exact hP) (by rw [← ww_mk_upd (k := k)]; exact hD) hS ls (lv_sub hl [1, 0] rfl)
  have loopW : ∀ (a : Nat → Nat) (d : Nat → ClassId), a 0 = h0 → va_K D ww_cl (ww_tX d) s → ∀ (j k : Nat), k ≤ 40 → 41 ≤ k + j → ∀ (H : Heap) (locs : List Loc), va_P D ww_cl (ww_X a d (ww_rt kp) (ww_mk k) (fun _ => 0) (fun _ => 0) (fun _ => 0) (fun _ => 0) (fun _ => 0) (nI 1) 0 0) H → va_D A (ww_X a d (ww_rt kp) (ww_mk k) (fun _ => 0) (fun _ => 0) (fun _ => 0) (fun _ => 0) (fun _ => 0) (nI 1) 0 0) → va_S A s.heap H locs → ∀ (ls : Array Slot), lv_has ls 3 [(0, .ref (a 0)), (2, .int (nI k))] → W pr l e (headSpec (ws_ yX1_init cX1_init 3 none) ({ frames := 1, cells := 6, slots := 776, locals := 15 })).room s m ([.ref h0, .int kp] : List Value).toArray below meth c H locs 6 776 (MQ below (va_Qv (fun (u : (Nat → Nat) × (Nat → ClassId)) => u.1 0 = h0) (fun u t => va_P D ww_cl (ww_X u.1 u.2 (ww_rt kp) (ww_mk 40) (fun _ => 0) (ww_mk 160) (fun _ => 0) (fun _ => 0) (fun _ => 0) (nI 1) 0 0) t.heap ∧ va_K D ww_cl (ww_tX u.2) t ∧ va_D A (ww_X u.1 u.2 (ww_rt kp) (ww_mk 40) (fun _ => 0) (ww_mk 160) (fun _ => 0) (fun _ => 0) (fun _ => 0) (nI 1) 0 0)) A) ([.ref h0, .int kp] : List Value).toArray s 6 776 A) (F0 m 76 ls []) := by
    intro a d ea hK j
    induction j with
    | zero => intro k h1 h2; exact absurd h2 (by omega)
    | succ j ih =>
      intro k h1 h2 H locs hP hD hS ls hl
      refine lv_iload_n hx hb dX1_init_76 rfl (lv_at hl 1 rfl) ?_
      refine lv_bipush (v := nI 40) hx hb dX1_init_77 (by decide) ?_
      refine ww_icmp_ge (tgt := 95) hx hb dX1_init_79 (by decide) (fun c_79 => ?_) (fun c_79 => ?_)
      · have ek : k = 40 := by omega
        subst ek
        refine lv_iconst (v := nI 0) hx hb dX1_init_95 (by decide) ?_
        refine lv_istore_n (lv' := [(2, .int (nI 0)), (0, .ref (a 0))]) hx hb dX1_init_96 rfl hl (by decide) rfl (fun ls hl => ?_)
        exact loopP a d ea hK 161 0 (by omega) (by omega) _ _ (by rw [ww_mk_0]; exact hP) (by rw [ww_mk_0]; exact hD) hS ls (lv_sub hl [1, 0] rfl)
      · refine lv_aload_n hx hb dX1_init_82 rfl (lv_at hl 0 rfl) ?_
        refine ww_gX 1 q37 rfl hx hb hts hown hK hP dX1_init_83 ?_
        refine lv_iload_n hx hb dX1_init_86 rfl (lv_at hl 1 rfl) ?_
        refine lv_iconst (v := -1) hx hb dX1_init_87 (by decide) ?_
        refine ww_iast hx hb hK hP hD hS 1 0 rfl rfl dX1_init_88 (fun H locs hP hD hS => ?_)
        have hP : va_P D ww_cl (ww_X a d (ww_rt kp) (upd (ww_mk k) k (-1)) (fun _ => 0) (fun _ => 0) (fun _ => 0) (fun _ => 0) (fun _ => 0) (nI 1) 0 0) H := hP
        have hD : va_D A (ww_X a d (ww_rt kp) (upd (ww_mk k) k (-1)) (fun _ => 0) (fun _ => 0) (fun _ => 0) (fun _ => 0) (fun _ => 0) (nI 1) 0 0) := hD
        refine lv_iinc (v := nI (k + 1)) (lv' := [(2, .int (nI (k + 1))), (0, .ref (a 0))]) hx hb dX1_init_89 hl (k := 1) rfl (ww_inc k) (by decide) rfl (fun ls hl => ?_)
        refine lv_goto (tgt := 76) hx hb dX1_init_92 (by decide) ?_
        exact ih (k + 1) (by omega) (by omega) _ _ (by rw [← ww_mk_upd (k := k)]; exact hP) (by rw [← ww_mk_upd (k := k)]; exact hD) hS ls (lv_sub hl [1, 0] rfl)
  refine lv_aload_n hx hb dX1_init_0 rfl (lv_at hl 0 rfl) ?_
  refine W.objInit hx hb hown (hts _ q27) (hts _ q28) (hts _ q29) rfl (by rw [hml]; exact hl.1) rfl dX1_init_1 (Nat.le_of_ble_eq_true rfl) (Nat.le_of_ble_eq_true rfl) ?_
  refine W.eq (g2 := F0 m 4 ls []) rfl ?_
  refine lv_aload_n hx hb dX1_init_4 rfl (lv_at hl 0 rfl) ?_
  refine lv_bipush (v := nI 40) hx hb dX1_init_5 (by decide) ?_
  refine va_newa (atype := .int) (ty := .int) (N' := 40) (a0 := (40, .inl (fun _ => 0))) hx hb (hts _ q67) rfl hK hP hD hS hA (fun _ => rfl) (nI_pos (by decide)) (nI_clamp (by decide)) (by decide) (Nat.le_of_ble_eq_true rfl) (Nat.le_of_ble_eq_true rfl) dX1_init_7 (fun q1 c1 H hK hP hD hS => ?_)
  have hP : va_P D ww_cl [(h0, .inr (0, [.int 0, .null, .null, .null, .null, .null, .null, .int 0, .int 0, .int 0])), (q1, .inl (c1, (40, .inl (fun _ => 0))))] H := hP
  have hD : va_D A [(h0, .inr (0, [.int 0, .null, .null, .null, .null, .null, .null, .int 0, .int 0, .int 0])), (q1, .inl (c1, (40, .inl (fun _ => 0))))] := hD
  refine W.widen (k := 1) (n := 40) (by omega) (by omega) ?_
  refine va_putF (D := D) (ci := 0) (v := .ref q1) (ty := .array .int) (C := RX1) (T := TX1) (N := 10) hx hb hts in_X1 tyX1 tyX1_ok nmX1 hown hK hP hD hS 0 rfl rfl 1 (by decide) (hts _ q37) (fun _ h9 => h9) rfl hin rfl (by decide +kernel) rfl rfl (Nat.le_of_ble_eq_true rfl) dX1_init_9 (fun H locs hP hD hS => ?_)
  have hP : va_P D ww_cl [(h0, .inr (0, [.int 0, .ref q1, .null, .null, .null, .null, .null, .int 0, .int 0, .int 0])), (q1, .inl (c1, (40, .inl (fun _ => 0))))] H := hP
  have hD : va_D A [(h0, .inr (0, [.int 0, .ref q1, .null, .null, .null, .null, .null, .int 0, .int 0, .int 0])), (q1, .inl (c1, (40, .inl (fun _ => 0))))] := hD
  refine lv_aload_n hx hb dX1_init_12 rfl (lv_at hl 0 rfl) ?_
  refine lv_bipush (v := nI 40) hx hb dX1_init_13 (by decide) ?_
  refine va_newa (atype := .int) (ty := .int) (N' := 40) (a0 := (40, .inl (fun _ => 0))) hx hb (hts _ q67) rfl hK hP hD hS hA (fun _ => rfl) (nI_pos (by decide)) (nI_clamp (by decide)) (by decide) (Nat.le_of_ble_eq_true rfl) (Nat.le_of_ble_eq_true rfl) dX1_init_15 (fun q2 c2 H hK hP hD hS => ?_)
  have hP : va_P D ww_cl [(h0, .inr (0, [.int 0, .ref q1, .null, .null, .null, .null, .null, .int 0, .int 0, .int 0])), (q1, .inl (c1, (40, .inl (fun _ => 0)))), (q2, .inl (c2, (40, .inl (fun _ => 0))))] H := hP
  have hD : va_D A [(h0, .inr (0, [.int 0, .ref q1, .null, .null, .null, .null, .null, .int 0, .int 0, .int 0])), (q1, .inl (c1, (40, .inl (fun _ => 0)))), (q2, .inl (c2, (40, .inl (fun _ => 0))))] := hD
  refine W.widen (k := 2) (n := 80) (by omega) (by omega) ?_
  refine va_putF (D := D) (ci := 0) (v := .ref q2) (ty := .array .int) (C := RX1) (T := TX1) (N := 10) hx hb hts in_X1 tyX1 tyX1_ok nmX1 hown hK hP hD hS 0 rfl rfl 2 (by decide) (hts _ q38) (fun _ h9 => h9) rfl hin rfl (by decide +kernel) rfl rfl (Nat.le_of_ble_eq_true rfl) dX1_init_17 (fun H locs hP hD hS => ?_)
  have hP : va_P D ww_cl [(h0, .inr (0, [.int 0, .ref q1, .ref q2, .null, .null, .null, .null, .int 0, .int 0, .int 0])), (q1, .inl (c1, (40, .inl (fun _ => 0)))), (q2, .inl (c2, (40, .inl (fun _ => 0))))] H := hP
  have hD : va_D A [(h0, .inr (0, [.int 0, .ref q1, .ref q2, .null, .null, .null, .null, .int 0, .int 0, .int 0])), (q1, .inl (c1, (40, .inl (fun _ => 0)))), (q2, .inl (c2, (40, .inl (fun _ => 0))))] := hD
  refine lv_aload_n hx hb dX1_init_20 rfl (lv_at hl 0 rfl) ?_
  refine lv_sipush (v := nI 160) hx hb dX1_init_21 (by decide) ?_
  refine va_newa (atype := .int) (ty := .int) (N' := 160) (a0 := (160, .inl (fun _ => 0))) hx hb (hts _ q67) rfl hK hP hD hS hA (fun _ => rfl) (nI_pos (by decide)) (nI_clamp (by decide)) (by decide) (Nat.le_of_ble_eq_true rfl) (Nat.le_of_ble_eq_true rfl) dX1_init_24 (fun q3 c3 H hK hP hD hS => ?_)
  have hP : va_P D ww_cl [(h0, .inr (0, [.int 0, .ref q1, .ref q2, .null, .null, .null, .null, .int 0, .int 0, .int 0])), (q1, .inl (c1, (40, .inl (fun _ => 0)))), (q2, .inl (c2, (40, .inl (fun _ => 0)))), (q3, .inl (c3, (160, .inl (fun _ => 0))))] H := hP
  have hD : va_D A [(h0, .inr (0, [.int 0, .ref q1, .ref q2, .null, .null, .null, .null, .int 0, .int 0, .int 0])), (q1, .inl (c1, (40, .inl (fun _ => 0)))), (q2, .inl (c2, (40, .inl (fun _ => 0)))), (q3, .inl (c3, (160, .inl (fun _ => 0))))] := hD
  refine W.widen (k := 3) (n := 240) (by omega) (by omega) ?_
  refine va_putF (D := D) (ci := 0) (v := .ref q3) (ty := .array .int) (C := RX1) (T := TX1) (N := 10) hx hb hts in_X1 tyX1 tyX1_ok nmX1 hown hK hP hD hS 0 rfl rfl 3 (by decide) (hts _ q39) (fun _ h9 => h9) rfl hin rfl (by decide +kernel) rfl rfl (Nat.le_of_ble_eq_true rfl) dX1_init_26 (fun H locs hP hD hS => ?_)
  have hP : va_P D ww_cl [(h0, .inr (0, [.int 0, .ref q1, .ref q2, .ref q3, .null, .null, .null, .int 0, .int 0, .int 0])), (q1, .inl (c1, (40, .inl (fun _ => 0)))), (q2, .inl (c2, (40, .inl (fun _ => 0)))), (q3, .inl (c3, (160, .inl (fun _ => 0))))] H := hP
  have hD : va_D A [(h0, .inr (0, [.int 0, .ref q1, .ref q2, .ref q3, .null, .null, .null, .int 0, .int 0, .int 0])), (q1, .inl (c1, (40, .inl (fun _ => 0)))), (q2, .inl (c2, (40, .inl (fun _ => 0)))), (q3, .inl (c3, (160, .inl (fun _ => 0))))] := hD
  refine lv_aload_n hx hb dX1_init_29 rfl (lv_at hl 0 rfl) ?_
  refine lv_bipush (v := nI 16) hx hb dX1_init_30 (by decide) ?_
  refine va_newa (atype := .boolean) (ty := .boolean) (N' := 16) (a0 := (16, .inl (fun _ => 0))) hx hb (hts _ q68) rfl hK hP hD hS hA (fun _ => rfl) (nI_pos (by decide)) (nI_clamp (by decide)) (by decide) (Nat.le_of_ble_eq_true rfl) (Nat.le_of_ble_eq_true rfl) dX1_init_32 (fun q4 c4 H hK hP hD hS => ?_)
  have hP : va_P D ww_cl [(h0, .inr (0, [.int 0, .ref q1, .ref q2, .ref q3, .null, .null, .null, .int 0, .int 0, .int 0])), (q1, .inl (c1, (40, .inl (fun _ => 0)))), (q2, .inl (c2, (40, .inl (fun _ => 0)))), (q3, .inl (c3, (160, .inl (fun _ => 0)))), (q4, .inl (c4, (16, .inl (fun _ => 0))))] H := hP
  have hD : va_D A [(h0, .inr (0, [.int 0, .ref q1, .ref q2, .ref q3, .null, .null, .null, .int 0, .int 0, .int 0])), (q1, .inl (c1, (40, .inl (fun _ => 0)))), (q2, .inl (c2, (40, .inl (fun _ => 0)))), (q3, .inl (c3, (160, .inl (fun _ => 0)))), (q4, .inl (c4, (16, .inl (fun _ => 0))))] := hD
  refine W.widen (k := 4) (n := 256) (by omega) (by omega) ?_
  refine va_putF (D := D) (ci := 0) (v := .ref q4) (ty := .array .boolean) (C := RX1) (T := TX1) (N := 10) hx hb hts in_X1 tyX1 tyX1_ok nmX1 hown hK hP hD hS 0 rfl rfl 4 (by decide) (hts _ q40) (fun _ h9 => h9) rfl hin rfl (by decide +kernel) rfl rfl (Nat.le_of_ble_eq_true rfl) dX1_init_34 (fun H locs hP hD hS => ?_)
  have hP : va_P D ww_cl [(h0, .inr (0, [.int 0, .ref q1, .ref q2, .ref q3, .ref q4, .null, .null, .int 0, .int 0, .int 0])), (q1, .inl (c1, (40, .inl (fun _ => 0)))), (q2, .inl (c2, (40, .inl (fun _ => 0)))), (q3, .inl (c3, (160, .inl (fun _ => 0)))), (q4, .inl (c4, (16, .inl (fun _ => 0))))] H := hP
  have hD : va_D A [(h0, .inr (0, [.int 0, .ref q1, .ref q2, .ref q3, .ref q4, .null, .null, .int 0, .int 0, .int 0])), (q1, .inl (c1, (40, .inl (fun _ => 0)))), (q2, .inl (c2, (40, .inl (fun _ => 0)))), (q3, .inl (c3, (160, .inl (fun _ => 0)))), (q4, .inl (c4, (16, .inl (fun _ => 0))))] := hD
  refine lv_aload_n hx hb dX1_init_37 rfl (lv_at hl 0 rfl) ?_
  refine lv_sipush (v := nI 260) hx hb dX1_init_38 (by decide) ?_
  refine va_newa (atype := .int) (ty := .int) (N' := 260) (a0 := (260, .inl (fun _ => 0))) hx hb (hts _ q67) rfl hK hP hD hS hA (fun _ => rfl) (nI_pos (by decide)) (nI_clamp (by decide)) (by decide) (Nat.le_of_ble_eq_true rfl) (Nat.le_of_ble_eq_true rfl) dX1_init_41 (fun q5 c5 H hK hP hD hS => ?_)
  have hP : va_P D ww_cl [(h0, .inr (0, [.int 0, .ref q1, .ref q2, .ref q3, .ref q4, .null, .null, .int 0, .int 0, .int 0])), (q1, .inl (c1, (40, .inl (fun _ => 0)))), (q2, .inl (c2, (40, .inl (fun _ => 0)))), (q3, .inl (c3, (160, .inl (fun _ => 0)))), (q4, .inl (c4, (16, .inl (fun _ => 0)))), (q5, .inl (c5, (260, .inl (fun _ => 0))))] H := hP
  have hD : va_D A [(h0, .inr (0, [.int 0, .ref q1, .ref q2, .ref q3, .ref q4, .null, .null, .int 0, .int 0, .int 0])), (q1, .inl (c1, (40, .inl (fun _ => 0)))), (q2, .inl (c2, (40, .inl (fun _ => 0)))), (q3, .inl (c3, (160, .inl (fun _ => 0)))), (q4, .inl (c4, (16, .inl (fun _ => 0)))), (q5, .inl (c5, (260, .inl (fun _ => 0))))] := hD
  refine W.widen (k := 5) (n := 516) (by omega) (by omega) ?_
  refine va_putF (D := D) (ci := 0) (v := .ref q5) (ty := .array .int) (C := RX1) (T := TX1) (N := 10) hx hb hts in_X1 tyX1 tyX1_ok nmX1 hown hK hP hD hS 0 rfl rfl 5 (by decide) (hts _ q41) (fun _ h9 => h9) rfl hin rfl (by decide +kernel) rfl rfl (Nat.le_of_ble_eq_true rfl) dX1_init_43 (fun H locs hP hD hS => ?_)
  have hP : va_P D ww_cl [(h0, .inr (0, [.int 0, .ref q1, .ref q2, .ref q3, .ref q4, .ref q5, .null, .int 0, .int 0, .int 0])), (q1, .inl (c1, (40, .inl (fun _ => 0)))), (q2, .inl (c2, (40, .inl (fun _ => 0)))), (q3, .inl (c3, (160, .inl (fun _ => 0)))), (q4, .inl (c4, (16, .inl (fun _ => 0)))), (q5, .inl (c5, (260, .inl (fun _ => 0))))] H := hP
  have hD : va_D A [(h0, .inr (0, [.int 0, .ref q1, .ref q2, .ref q3, .ref q4, .ref q5, .null, .int 0, .int 0, .int 0])), (q1, .inl (c1, (40, .inl (fun _ => 0)))), (q2, .inl (c2, (40, .inl (fun _ => 0)))), (q3, .inl (c3, (160, .inl (fun _ => 0)))), (q4, .inl (c4, (16, .inl (fun _ => 0)))), (q5, .inl (c5, (260, .inl (fun _ => 0))))] := hD
  refine lv_aload_n hx hb dX1_init_46 rfl (lv_at hl 0 rfl) ?_
  refine lv_sipush (v := nI 260) hx hb dX1_init_47 (by decide) ?_
  refine va_newa (atype := .int) (ty := .int) (N' := 260) (a0 := (260, .inl (fun _ => 0))) hx hb (hts _ q67) rfl hK hP hD hS hA (fun _ => rfl) (nI_pos (by decide)) (nI_clamp (by decide)) (by decide) (Nat.le_of_ble_eq_true rfl) (Nat.le_of_ble_eq_true rfl) dX1_init_50 (fun q6 c6 H hK hP hD hS => ?_)
  have hP : va_P D ww_cl [(h0, .inr (0, [.int 0, .ref q1, .ref q2, .ref q3, .ref q4, .ref q5, .null, .int 0, .int 0, .int 0])), (q1, .inl (c1, (40, .inl (fun _ => 0)))), (q2, .inl (c2, (40, .inl (fun _ => 0)))), (q3, .inl (c3, (160, .inl (fun _ => 0)))), (q4, .inl (c4, (16, .inl (fun _ => 0)))), (q5, .inl (c5, (260, .inl (fun _ => 0)))), (q6, .inl (c6, (260, .inl (fun _ => 0))))] H := hP
  have hD : va_D A [(h0, .inr (0, [.int 0, .ref q1, .ref q2, .ref q3, .ref q4, .ref q5, .null, .int 0, .int 0, .int 0])), (q1, .inl (c1, (40, .inl (fun _ => 0)))), (q2, .inl (c2, (40, .inl (fun _ => 0)))), (q3, .inl (c3, (160, .inl (fun _ => 0)))), (q4, .inl (c4, (16, .inl (fun _ => 0)))), (q5, .inl (c5, (260, .inl (fun _ => 0)))), (q6, .inl (c6, (260, .inl (fun _ => 0))))] := hD
  refine W.widen (k := 6) (n := 776) (by omega) (by omega) ?_
  refine va_putF (D := D) (ci := 0) (v := .ref q6) (ty := .array .int) (C := RX1) (T := TX1) (N := 10) hx hb hts in_X1 tyX1 tyX1_ok nmX1 hown hK hP hD hS 0 rfl rfl 6 (by decide) (hts _ q42) (fun _ h9 => h9) rfl hin rfl (by decide +kernel) rfl rfl (Nat.le_of_ble_eq_true rfl) dX1_init_52 (fun H locs hP hD hS => ?_)
  have hP : va_P D ww_cl [(h0, .inr (0, [.int 0, .ref q1, .ref q2, .ref q3, .ref q4, .ref q5, .ref q6, .int 0, .int 0, .int 0])), (q1, .inl (c1, (40, .inl (fun _ => 0)))), (q2, .inl (c2, (40, .inl (fun _ => 0)))), (q3, .inl (c3, (160, .inl (fun _ => 0)))), (q4, .inl (c4, (16, .inl (fun _ => 0)))), (q5, .inl (c5, (260, .inl (fun _ => 0)))), (q6, .inl (c6, (260, .inl (fun _ => 0))))] H := hP
  have hD : va_D A [(h0, .inr (0, [.int 0, .ref q1, .ref q2, .ref q3, .ref q4, .ref q5, .ref q6, .int 0, .int 0, .int 0])), (q1, .inl (c1, (40, .inl (fun _ => 0)))), (q2, .inl (c2, (40, .inl (fun _ => 0)))), (q3, .inl (c3, (160, .inl (fun _ => 0)))), (q4, .inl (c4, (16, .inl (fun _ => 0)))), (q5, .inl (c5, (260, .inl (fun _ => 0)))), (q6, .inl (c6, (260, .inl (fun _ => 0))))] := hD
  refine lv_aload_n hx hb dX1_init_55 rfl (lv_at hl 0 rfl) ?_
  refine lv_iconst (v := nI 1) hx hb dX1_init_56 (by decide) ?_
  refine va_put (D := D) (ci := 0) (v := .int (nI 1)) (ty := .boolean) (C := RX1) (T := TX1) (N := 10) hx hb hts in_X1 tyX1 tyX1_ok nmX1 hown hK hP hD hS 0 rfl rfl 7 (by decide) (hts _ q43) (fun _ h9 => h9) rfl (by decide +kernel) rfl rfl (Nat.le_of_ble_eq_true rfl) dX1_init_57 (fun H locs hP hD hS => ?_)
  have hP : va_P D ww_cl [(h0, .inr (0, [.int 0, .ref q1, .ref q2, .ref q3, .ref q4, .ref q5, .ref q6, .int (nI 1), .int 0, .int 0])), (q1, .inl (c1, (40, .inl (fun _ => 0)))), (q2, .inl (c2, (40, .inl (fun _ => 0)))), (q3, .inl (c3, (160, .inl (fun _ => 0)))), (q4, .inl (c4, (16, .inl (fun _ => 0)))), (q5, .inl (c5, (260, .inl (fun _ => 0)))), (q6, .inl (c6, (260, .inl (fun _ => 0))))] H := hP
  have hD : va_D A [(h0, .inr (0, [.int 0, .ref q1, .ref q2, .ref q3, .ref q4, .ref q5, .ref q6, .int (nI 1), .int 0, .int 0])), (q1, .inl (c1, (40, .inl (fun _ => 0)))), (q2, .inl (c2, (40, .inl (fun _ => 0)))), (q3, .inl (c3, (160, .inl (fun _ => 0)))), (q4, .inl (c4, (16, .inl (fun _ => 0)))), (q5, .inl (c5, (260, .inl (fun _ => 0)))), (q6, .inl (c6, (260, .inl (fun _ => 0))))] := hD
  refine lv_aload_n hx hb dX1_init_60 rfl (lv_at hl 0 rfl) ?_
  refine lv_iconst (v := nI 1) hx hb dX1_init_61 (by decide) ?_
  refine lv_bipush (v := nI 10) hx hb dX1_init_62 (by decide) ?_
  refine lv_iload_n hx hb dX1_init_64 rfl (lv_at hl 1 rfl) ?_
  refine va_mmin hx hb (by rw [hml]; exact hl.1.symm) hown (hts _ q30) (hts _ q31) (hts _ q20) (hts _ q32) (Nat.le_of_ble_eq_true rfl) (Nat.le_of_ble_eq_true rfl) (Nat.le_of_ble_eq_true rfl) (Nat.le_of_ble_eq_true rfl) dX1_init_65 ?_
  refine va_mmax hx hb (by rw [hml]; exact hl.1.symm) hown (hts _ q33) (hts _ q34) (hts _ q20) (hts _ q35) (Nat.le_of_ble_eq_true rfl) (Nat.le_of_ble_eq_true rfl) (Nat.le_of_ble_eq_true rfl) (Nat.le_of_ble_eq_true rfl) dX1_init_68 ?_
  refine ww_top (y := nI (ww_rt kp)) (ww_rt_x kp) ?_
  refine va_putF (D := D) (ci := 0) (v := .int (nI (ww_rt kp))) (ty := .int) (C := RX1) (T := TX1) (N := 10) hx hb hts in_X1 tyX1 tyX1_ok nmX1 hown hK hP hD hS 0 rfl rfl 0 (by decide) (hts _ q36) (fun _ h9 => h9) rfl hin rfl (by decide +kernel) rfl rfl (Nat.le_of_ble_eq_true rfl) dX1_init_71 (fun H locs hP hD hS => ?_)
  have hP : va_P D ww_cl [(h0, .inr (0, [.int (nI (ww_rt kp)), .ref q1, .ref q2, .ref q3, .ref q4, .ref q5, .ref q6, .int (nI 1), .int 0, .int 0])), (q1, .inl (c1, (40, .inl (fun _ => 0)))), (q2, .inl (c2, (40, .inl (fun _ => 0)))), (q3, .inl (c3, (160, .inl (fun _ => 0)))), (q4, .inl (c4, (16, .inl (fun _ => 0)))), (q5, .inl (c5, (260, .inl (fun _ => 0)))), (q6, .inl (c6, (260, .inl (fun _ => 0))))] H := hP
  have hD : va_D A [(h0, .inr (0, [.int (nI (ww_rt kp)), .ref q1, .ref q2, .ref q3, .ref q4, .ref q5, .ref q6, .int (nI 1), .int 0, .int 0])), (q1, .inl (c1, (40, .inl (fun _ => 0)))), (q2, .inl (c2, (40, .inl (fun _ => 0)))), (q3, .inl (c3, (160, .inl (fun _ => 0)))), (q4, .inl (c4, (16, .inl (fun _ => 0)))), (q5, .inl (c5, (260, .inl (fun _ => 0)))), (q6, .inl (c6, (260, .inl (fun _ => 0))))] := hD
  refine lv_iconst (v := nI 0) hx hb dX1_init_74 (by decide) ?_
  refine lv_istore_n (lv' := [(2, .int (nI 0)), (0, .ref h0), (1, .int kp)]) hx hb dX1_init_75 rfl hl (by decide) rfl (fun ls hl => ?_)
  refine loopW (fun i => match i with | 0 => h0 | 1 => q1 | 2 => q2 | 3 => q3 | 4 => q4 | 5 => q5 | _ => q6) (fun i => match i with | 0 => c1 | 1 => c1 | 2 => c2 | 3 => c3 | 4 => c4 | 5 => c5 | _ => c6) rfl hK 41 0 (by omega) (by omega) _ _ (by rw [ww_mk_0]; exact hP) (by rw [ww_mk_0]; exact hD) hS ls (lv_sub hl [1, 0] rfl)
set_option maxHeartbeats 4000000 in
set_option maxRecDepth 100000 in
/-- the object is made: its arrays, its number of routers -/
theorem metX2_init (l : Launch) (D : va_G) (h0 sz : Nat) (kp : Int32) : Met l yX2_init (ws_ yX2_init cX2_init 3 none) ({ frames := 1, cells := 4, slots := 106, locals := 15 }) (va_Pc [.ref h0, .int kp] (fun U => U.heap.size = sz ∧ va_P D ww_cl [(h0, .inr (1, [.int 0, .null, .null, .null, .null, .int 0, .int 0]))] U.heap ∧ va_K D ww_cl [] U ∧ va_D (fun _ => True) [(h0, .inr (1, [.int 0, .null, .null, .null, .null, .int 0, .int 0]))])) (va_Qv (fun (u : (Nat → Nat) × (Nat → ClassId)) => u.1 0 = h0) (fun u t => va_P D ww_cl (ww_M u.1 u.2 (ww_rt kp) (ww_mk 40) (fun _ => 0) (fun _ => 0) (fun _ => 0) 0 0) t.heap ∧ va_K D ww_cl (ww_tM u.2) t ∧ va_D (va_A [(h0, .inr (1, [.int 0, .null, .null, .null, .null, .int 0, .int 0]))] sz) (ww_M u.1 u.2 (ww_rt kp) (ww_mk 40) (fun _ => 0) (fun _ => 0) (fun _ => 0) 0 0)) (va_A [(h0, .inr (1, [.int 0, .null, .null, .null, .null, .int 0, .int 0]))] sz)) 4 106 (va_A [(h0, .inr (1, [.int 0, .null, .null, .null, .null, .int 0, .int 0]))] sz) := by
  refine Met.ofW (cc := cX2_init) (maxL := 3) (ret := none) (by decide) rfl ?_
  intro pr e s m args below meth c s₁ B hml hv
  obtain ⟨rfl, hsz, hP, hK, hD0⟩ := hv
  have hx := B.exec
  have hb := B.bytes
  have hret := B.returns
  have hts := atoms_spec (ws := (ws_ yX2_init cX2_init 3 none)) B.pre
  have hts : ∀ w ∈ lw_all, w.before _ s = true := fun w h => hts w (List.mem_cons_of_mem _ h)
  have hown : s.vm.findClass RX2 = some m.cls := findClass_of_methodNamed B.named
  have hlocks := B.notSynchronized
  have hin : meth.name = "<init>" := (name_of_methodNamed B.named B.method).1
  subst hsz
  have hD := hD0.self (sz := s.heap.size)
  generalize hAe : va_A [(h0, .inr (1, [.int 0, .null, .null, .null, .null, .int 0, .int 0]))] s.heap.size = A at hD ⊢
  have hA : ∀ q : Nat, s.heap.size ≤ q → A q := fun q h => by rw [← hAe]; exact Or.inr h
  have hS : va_S A s.heap s.heap [] := va_S.rf
  have hP : va_P D ww_cl [(h0, .inr (1, [.int 0, .null, .null, .null, .null, .int 0, .int 0]))] s.heap := hP
  have hl := lv_entry ([.ref h0, .int kp]) (n := 3) (Nat.le_of_ble_eq_true rfl)
  rw [lg_entry_eq]
  generalize (lg_sl ([.ref h0, .int kp]) ++ List.replicate (3 - (lg_sl ([.ref h0, .int kp])).length) Slot.unset).toArray = ls at hl ⊢
  have hl : lv_has ls 3 [(0, .ref h0), (1, .int kp)] := hl
  have loopW : ∀ (a : Nat → Nat) (d : Nat → ClassId), a 0 = h0 → va_K D ww_cl (ww_tM d) s → ∀ (j k : Nat), k ≤ 40 → 41 ≤ k + j → ∀ (H : Heap) (locs : List Loc), va_P D ww_cl (ww_M a d (ww_rt kp) (ww_mk k) (fun _ => 0) (fun _ => 0) (fun _ => 0) 0 0) H → va_D A (ww_M a d (ww_rt kp) (ww_mk k) (fun _ => 0) (fun _ => 0) (fun _ => 0) 0 0) → va_S A s.heap H locs → ∀ (ls : Array Slot), lv_has ls 3 [(0, .ref (a 0)), (2, .int (nI k))] → W pr l e (headSpec (ws_ yX2_init cX2_init 3 none) ({ frames := 1, cells := 4, slots := 106, locals := 15 })).room s m ([.ref h0, .int kp] : List Value).toArray below meth c H locs 4 106 (MQ below (va_Qv (fun (u : (Nat → Nat) × (Nat → ClassId)) => u.1 0 = h0) (fun u t => va_P D ww_cl (ww_M u.1 u.2 (ww_rt kp) (ww_mk 40) (fun _ => 0) (fun _ => 0) (fun _ => 0) 0 0) t.heap ∧ va_K D ww_cl (ww_tM u.2) t ∧ va_D A (ww_M u.1 u.2 (ww_rt kp) (ww_mk 40) (fun _ => 0) (fun _ => 0) (fun _ => 0) 0 0)) A) ([.ref h0, .int kp] : List Value).toArray s 4 106 A) (F0 m 63 ls []) := by
    intro a d ea hK j
    induction j with
    | zero => intro k h1 h2; exact absurd h2 (by omega)
    | succ j ih =>
      intro k h1 h2 H locs hP hD hS ls hl
      refine lv_iload_n hx hb dX2_init_63 rfl (lv_at hl 1 rfl) ?_
      refine lv_bipush (v := nI 40) hx hb dX2_init_64 (by decide) ?_
      refine ww_icmp_ge (tgt := 82) hx hb dX2_init_66 (by decide) (fun c_66 => ?_) (fun c_66 => ?_)
      · have ek : k = 40 := by omega
        subst ek
        exact W.vret hx hb hret (fun t9 ht9 hW9 => ⟨⟨(a, d), rfl, ea, by show va_P _ _ _ t9.heap; rw [ht9]; exact hP, va_K.moved hW9.alike hK, hD⟩, hS.F ht9⟩) hS.2.2 dX2_init_82
      · refine lv_aload_n hx hb dX2_init_69 rfl (lv_at hl 0 rfl) ?_
        refine ww_gM 1 q161 rfl hx hb hts hown hK hP dX2_init_70 ?_
        refine lv_iload_n hx hb dX2_init_73 rfl (lv_at hl 1 rfl) ?_
        refine lv_iconst (v := -1) hx hb dX2_init_74 (by decide) ?_
        refine ww_iast hx hb hK hP hD hS 1 0 rfl rfl dX2_init_75 (fun H locs hP hD hS => ?_)
        have hP : va_P D ww_cl (ww_M a d (ww_rt kp) (upd (ww_mk k) k (-1)) (fun _ => 0) (fun _ => 0) (fun _ => 0) 0 0) H := hP
        have hD : va_D A (ww_M a d (ww_rt kp) (upd (ww_mk k) k (-1)) (fun _ => 0) (fun _ => 0) (fun _ => 0) 0 0) := hD
        refine lv_iinc (v := nI (k + 1)) (lv' := [(2, .int (nI (k + 1))), (0, .ref (a 0))]) hx hb dX2_init_76 hl (k := 1) rfl (ww_inc k) (by decide) rfl (fun ls hl => ?_)
        refine lv_goto (tgt := 63) hx hb dX2_init_79 (by decide) ?_
        exact ih (k + 1) (by omega) (by omega) _ _ (by rw [← ww_mk_upd (k := k)]; exact hP) (by rw [← ww_mk_upd (k := k)]; exact hD) hS ls (lv_sub hl [1, 0] rfl)
  refine lv_aload_n hx hb dX2_init_0 rfl (lv_at hl 0 rfl) ?_
  refine W.objInit hx hb hown (hts _ q159) (hts _ q28) (hts _ q29) rfl (by rw [hml]; exact hl.1) rfl dX2_init_1 (Nat.le_of_ble_eq_true rfl) (Nat.le_of_ble_eq_true rfl) ?_
  refine W.eq (g2 := F0 m 4 ls []) rfl ?_
  refine lv_aload_n hx hb dX2_init_4 rfl (lv_at hl 0 rfl) ?_
  refine lv_bipush (v := nI 40) hx hb dX2_init_5 (by decide) ?_
  refine va_newa (atype := .int) (ty := .int) (N' := 40) (a0 := (40, .inl (fun _ => 0))) hx hb (hts _ q67) rfl hK hP hD hS hA (fun _ => rfl) (nI_pos (by decide)) (nI_clamp (by decide)) (by decide) (Nat.le_of_ble_eq_true rfl) (Nat.le_of_ble_eq_true rfl) dX2_init_7 (fun q1 c1 H hK hP hD hS => ?_)
  have hP : va_P D ww_cl [(h0, .inr (1, [.int 0, .null, .null, .null, .null, .int 0, .int 0])), (q1, .inl (c1, (40, .inl (fun _ => 0))))] H := hP
  have hD : va_D A [(h0, .inr (1, [.int 0, .null, .null, .null, .null, .int 0, .int 0])), (q1, .inl (c1, (40, .inl (fun _ => 0))))] := hD
  refine W.widen (k := 1) (n := 40) (by omega) (by omega) ?_
  refine va_putF (D := D) (ci := 1) (v := .ref q1) (ty := .array .int) (C := RX2) (T := TX2) (N := 7) hx hb hts in_X2 tyX2 tyX2_ok nmX2 hown hK hP hD hS 0 rfl rfl 1 (by decide) (hts _ q161) (fun _ h9 => h9) rfl hin rfl (by decide +kernel) rfl rfl (Nat.le_of_ble_eq_true rfl) dX2_init_9 (fun H locs hP hD hS => ?_)
  have hP : va_P D ww_cl [(h0, .inr (1, [.int 0, .ref q1, .null, .null, .null, .int 0, .int 0])), (q1, .inl (c1, (40, .inl (fun _ => 0))))] H := hP
  have hD : va_D A [(h0, .inr (1, [.int 0, .ref q1, .null, .null, .null, .int 0, .int 0])), (q1, .inl (c1, (40, .inl (fun _ => 0))))] := hD
  refine lv_aload_n hx hb dX2_init_12 rfl (lv_at hl 0 rfl) ?_
  refine lv_bipush (v := nI 40) hx hb dX2_init_13 (by decide) ?_
  refine va_newa (atype := .int) (ty := .int) (N' := 40) (a0 := (40, .inl (fun _ => 0))) hx hb (hts _ q67) rfl hK hP hD hS hA (fun _ => rfl) (nI_pos (by decide)) (nI_clamp (by decide)) (by decide) (Nat.le_of_ble_eq_true rfl) (Nat.le_of_ble_eq_true rfl) dX2_init_15 (fun q2 c2 H hK hP hD hS => ?_)
  have hP : va_P D ww_cl [(h0, .inr (1, [.int 0, .ref q1, .null, .null, .null, .int 0, .int 0])), (q1, .inl (c1, (40, .inl (fun _ => 0)))), (q2, .inl (c2, (40, .inl (fun _ => 0))))] H := hP
  have hD : va_D A [(h0, .inr (1, [.int 0, .ref q1, .null, .null, .null, .int 0, .int 0])), (q1, .inl (c1, (40, .inl (fun _ => 0)))), (q2, .inl (c2, (40, .inl (fun _ => 0))))] := hD
  refine W.widen (k := 2) (n := 80) (by omega) (by omega) ?_
  refine va_putF (D := D) (ci := 1) (v := .ref q2) (ty := .array .int) (C := RX2) (T := TX2) (N := 7) hx hb hts in_X2 tyX2 tyX2_ok nmX2 hown hK hP hD hS 0 rfl rfl 2 (by decide) (hts _ q162) (fun _ h9 => h9) rfl hin rfl (by decide +kernel) rfl rfl (Nat.le_of_ble_eq_true rfl) dX2_init_17 (fun H locs hP hD hS => ?_)
  have hP : va_P D ww_cl [(h0, .inr (1, [.int 0, .ref q1, .ref q2, .null, .null, .int 0, .int 0])), (q1, .inl (c1, (40, .inl (fun _ => 0)))), (q2, .inl (c2, (40, .inl (fun _ => 0))))] H := hP
  have hD : va_D A [(h0, .inr (1, [.int 0, .ref q1, .ref q2, .null, .null, .int 0, .int 0])), (q1, .inl (c1, (40, .inl (fun _ => 0)))), (q2, .inl (c2, (40, .inl (fun _ => 0))))] := hD
  refine lv_aload_n hx hb dX2_init_20 rfl (lv_at hl 0 rfl) ?_
  refine lv_bipush (v := nI 16) hx hb dX2_init_21 (by decide) ?_
  refine va_newa (atype := .boolean) (ty := .boolean) (N' := 16) (a0 := (16, .inl (fun _ => 0))) hx hb (hts _ q68) rfl hK hP hD hS hA (fun _ => rfl) (nI_pos (by decide)) (nI_clamp (by decide)) (by decide) (Nat.le_of_ble_eq_true rfl) (Nat.le_of_ble_eq_true rfl) dX2_init_23 (fun q3 c3 H hK hP hD hS => ?_)
  have hP : va_P D ww_cl [(h0, .inr (1, [.int 0, .ref q1, .ref q2, .null, .null, .int 0, .int 0])), (q1, .inl (c1, (40, .inl (fun _ => 0)))), (q2, .inl (c2, (40, .inl (fun _ => 0)))), (q3, .inl (c3, (16, .inl (fun _ => 0))))] H := hP
  have hD : va_D A [(h0, .inr (1, [.int 0, .ref q1, .ref q2, .null, .null, .int 0, .int 0])), (q1, .inl (c1, (40, .inl (fun _ => 0)))), (q2, .inl (c2, (40, .inl (fun _ => 0)))), (q3, .inl (c3, (16, .inl (fun _ => 0))))] := hD
  refine W.widen (k := 3) (n := 96) (by omega) (by omega) ?_
  refine va_putF (D := D) (ci := 1) (v := .ref q3) (ty := .array .boolean) (C := RX2) (T := TX2) (N := 7) hx hb hts in_X2 tyX2 tyX2_ok nmX2 hown hK hP hD hS 0 rfl rfl 3 (by decide) (hts _ q163) (fun _ h9 => h9) rfl hin rfl (by decide +kernel) rfl rfl (Nat.le_of_ble_eq_true rfl) dX2_init_25 (fun H locs hP hD hS => ?_)
  have hP : va_P D ww_cl [(h0, .inr (1, [.int 0, .ref q1, .ref q2, .ref q3, .null, .int 0, .int 0])), (q1, .inl (c1, (40, .inl (fun _ => 0)))), (q2, .inl (c2, (40, .inl (fun _ => 0)))), (q3, .inl (c3, (16, .inl (fun _ => 0))))] H := hP
  have hD : va_D A [(h0, .inr (1, [.int 0, .ref q1, .ref q2, .ref q3, .null, .int 0, .int 0])), (q1, .inl (c1, (40, .inl (fun _ => 0)))), (q2, .inl (c2, (40, .inl (fun _ => 0)))), (q3, .inl (c3, (16, .inl (fun _ => 0))))] := hD
  refine lv_aload_n hx hb dX2_init_28 rfl (lv_at hl 0 rfl) ?_
  refine lv_bipush (v := nI 10) hx hb dX2_init_29 (by decide) ?_
  refine va_newa (atype := .int) (ty := .int) (N' := 10) (a0 := (10, .inl (fun _ => 0))) hx hb (hts _ q67) rfl hK hP hD hS hA (fun _ => rfl) (nI_pos (by decide)) (nI_clamp (by decide)) (by decide) (Nat.le_of_ble_eq_true rfl) (Nat.le_of_ble_eq_true rfl) dX2_init_31 (fun q4 c4 H hK hP hD hS => ?_)
  have hP : va_P D ww_cl [(h0, .inr (1, [.int 0, .ref q1, .ref q2, .ref q3, .null, .int 0, .int 0])), (q1, .inl (c1, (40, .inl (fun _ => 0)))), (q2, .inl (c2, (40, .inl (fun _ => 0)))), (q3, .inl (c3, (16, .inl (fun _ => 0)))), (q4, .inl (c4, (10, .inl (fun _ => 0))))] H := hP
  have hD : va_D A [(h0, .inr (1, [.int 0, .ref q1, .ref q2, .ref q3, .null, .int 0, .int 0])), (q1, .inl (c1, (40, .inl (fun _ => 0)))), (q2, .inl (c2, (40, .inl (fun _ => 0)))), (q3, .inl (c3, (16, .inl (fun _ => 0)))), (q4, .inl (c4, (10, .inl (fun _ => 0))))] := hD
  refine W.widen (k := 4) (n := 106) (by omega) (by omega) ?_
  refine va_putF (D := D) (ci := 1) (v := .ref q4) (ty := .array .int) (C := RX2) (T := TX2) (N := 7) hx hb hts in_X2 tyX2 tyX2_ok nmX2 hown hK hP hD hS 0 rfl rfl 4 (by decide) (hts _ q164) (fun _ h9 => h9) rfl hin rfl (by decide +kernel) rfl rfl (Nat.le_of_ble_eq_true rfl) dX2_init_33 (fun H locs hP hD hS => ?_)
  have hP : va_P D ww_cl [(h0, .inr (1, [.int 0, .ref q1, .ref q2, .ref q3, .ref q4, .int 0, .int 0])), (q1, .inl (c1, (40, .inl (fun _ => 0)))), (q2, .inl (c2, (40, .inl (fun _ => 0)))), (q3, .inl (c3, (16, .inl (fun _ => 0)))), (q4, .inl (c4, (10, .inl (fun _ => 0))))] H := hP
  have hD : va_D A [(h0, .inr (1, [.int 0, .ref q1, .ref q2, .ref q3, .ref q4, .int 0, .int 0])), (q1, .inl (c1, (40, .inl (fun _ => 0)))), (q2, .inl (c2, (40, .inl (fun _ => 0)))), (q3, .inl (c3, (16, .inl (fun _ => 0)))), (q4, .inl (c4, (10, .inl (fun _ => 0))))] := hD
  refine lv_aload_n hx hb dX2_init_36 rfl (lv_at hl 0 rfl) ?_
  have k58 : W pr l e (headSpec (ws_ yX2_init cX2_init 3 none) ({ frames := 1, cells := 4, slots := 106, locals := 15 })).room s m ([.ref h0, .int kp] : List Value).toArray below meth c H locs 4 106 (MQ below (va_Qv (fun (u : (Nat → Nat) × (Nat → ClassId)) => u.1 0 = h0) (fun u t => va_P D ww_cl (ww_M u.1 u.2 (ww_rt kp) (ww_mk 40) (fun _ => 0) (fun _ => 0) (fun _ => 0) 0 0) t.heap ∧ va_K D ww_cl (ww_tM u.2) t ∧ va_D A (ww_M u.1 u.2 (ww_rt kp) (ww_mk 40) (fun _ => 0) (fun _ => 0) (fun _ => 0) 0 0)) A) ([.ref h0, .int kp] : List Value).toArray s 4 106 A) (F0 m 58 ls [.int (nI (ww_rt kp)), .ref h0]) := by
    refine va_putF (D := D) (ci := 1) (v := .int (nI (ww_rt kp))) (ty := .int) (C := RX2) (T := TX2) (N := 7) hx hb hts in_X2 tyX2 tyX2_ok nmX2 hown hK hP hD hS 0 rfl rfl 0 (by decide) (hts _ q160) (fun _ h9 => h9) rfl hin rfl (by decide +kernel) rfl rfl (Nat.le_of_ble_eq_true rfl) dX2_init_58 (fun H locs hP hD hS => ?_)
    have hP : va_P D ww_cl [(h0, .inr (1, [.int (nI (ww_rt kp)), .ref q1, .ref q2, .ref q3, .ref q4, .int 0, .int 0])), (q1, .inl (c1, (40, .inl (fun _ => 0)))), (q2, .inl (c2, (40, .inl (fun _ => 0)))), (q3, .inl (c3, (16, .inl (fun _ => 0)))), (q4, .inl (c4, (10, .inl (fun _ => 0))))] H := hP
    have hD : va_D A [(h0, .inr (1, [.int (nI (ww_rt kp)), .ref q1, .ref q2, .ref q3, .ref q4, .int 0, .int 0])), (q1, .inl (c1, (40, .inl (fun _ => 0)))), (q2, .inl (c2, (40, .inl (fun _ => 0)))), (q3, .inl (c3, (16, .inl (fun _ => 0)))), (q4, .inl (c4, (10, .inl (fun _ => 0))))] := hD
    refine lv_iconst (v := nI 0) hx hb dX2_init_61 (by decide) ?_
    refine lv_istore_n (lv' := [(2, .int (nI 0)), (0, .ref h0), (1, .int kp)]) hx hb dX2_init_62 rfl hl (by decide) rfl (fun ls hl => ?_)
    refine loopW (fun i => match i with | 0 => h0 | 1 => q1 | 2 => q2 | 3 => q3 | _ => q4) (fun i => match i with | 0 => c1 | 1 => c1 | 2 => c2 | 3 => c3 | _ => c4) rfl hK 41 0 (by omega) (by omega) _ _ (by rw [ww_mk_0]; exact hP) (by rw [ww_mk_0]; exact hD) hS ls (lv_sub hl [1, 0] rfl)
  refine lv_iload_n hx hb dX2_init_37 rfl (lv_at hl 1 rfl) ?_
  refine lv_iconst (v := nI 1) hx hb dX2_init_38 (by decide) ?_
  refine lv_icmp_ge (tgt := 46) hx hb dX2_init_39 (by decide) (fun c_39 => ?_) (fun c_39 => ?_)
  · refine lv_iload_n hx hb dX2_init_46 rfl (lv_at hl 1 rfl) ?_
    refine lv_bipush (v := nI 10) hx hb dX2_init_47 (by decide) ?_
    refine lv_icmp_le (tgt := 57) hx hb dX2_init_49 (by decide) (fun c_49 => ?_) (fun c_49 => ?_)
    · refine lv_iload_n hx hb dX2_init_57 rfl (lv_at hl 1 rfl) ?_
      exact ww_top (y := nI (ww_rt kp)) (ww_rt_in c_39 c_49) k58
    · refine lv_bipush (v := nI 10) hx hb dX2_init_52 (by decide) ?_
      refine lv_goto (tgt := 58) hx hb dX2_init_54 (by decide) ?_
      exact ww_top (y := nI (ww_rt kp)) (ww_rt_hi c_39 c_49) k58
  · refine lv_iconst (v := nI 1) hx hb dX2_init_42 (by decide) ?_
    refine lv_goto (tgt := 58) hx hb dX2_init_43 (by decide) ?_
    exact ww_top (y := nI (ww_rt kp)) (ww_rt_lo c_39) k58
end
section
/-! plain facts for the law: what holds stays -/
theorem ww_cw_out {W : Nat → Int32} {k : Nat} {v : Int32} : ∀ m, m ≤ k → ww_cw (upd W k v) m = ww_cw W m := by
  intro m
  induction m with
  | zero => intro _; rfl
  | succ m ih =>
    intro h
    unfold ww_cw
    rw [ih (by omega), pk_un (by omega)]
theorem ww_cw_upd {W : Nat → Int32} {k : Nat} {v : Int32} : ∀ m, k < m → ww_cw (upd W k v) m + (if W k = -1 then 0 else 1) = ww_cw W m + (if v = -1 then 0 else 1) := by
  intro m
  induction m with
  | zero => intro h; omega
  | succ m ih =>
    intro h
    unfold ww_cw
    by_cases e : k = m
    · subst e
      rw [ww_cw_out k (Nat.le_refl _), pk_us]
      omega
    · rw [pk_un (by omega)]
      have := ih (by omega)
      omega
theorem ww_cc_out {W : Nat → Int32} {k : Nat} {v : Int32} : ∀ m, m ≤ k → ww_cc (upd W k v) m = ww_cc W m := by
  intro m
  induction m with
  | zero => intro _; rfl
  | succ m ih =>
    intro h
    unfold ww_cc
    rw [ih (by omega), pk_un (by omega)]
theorem ww_cc_upd {W : Nat → Int32} {k : Nat} {v : Int32} : ∀ m, k < m → ww_cc (upd W k v) m + (if W k = 0 then 0 else 1) = ww_cc W m + (if v = 0 then 0 else 1) := by
  intro m
  induction m with
  | zero => intro h; omega
  | succ m ih =>
    intro h
    unfold ww_cc
    by_cases e : k = m
    · subst e
      rw [ww_cc_out k (Nat.le_refl _), pk_us]
      omega
    · rw [pk_un (by omega)]
      have := ih (by omega)
      omega
theorem ww_19 {k : Int32} (h : ¬ k < nI 1) (h2 : k ≤ nI 9) : ∃ c, 1 ≤ c ∧ c ≤ 9 ∧ k = nI c := by
  obtain ⟨j, hj, rfl⟩ := nI_of2 (x := k) (M := nI 9) (n := 9) (by decide) (fun z => by
    rw [Int32.lt_iff_toInt_lt] at h z
    have : (nI 1).toInt = 1 := by decide
    have : (0 : Int32).toInt = 0 := by decide
    omega) h2
  rw [nI_ltI (by omega) (by decide)] at h
  exact ⟨j, by omega, hj, rfl⟩
theorem ww_po_eq {W : Nat → Int32} {r p : Nat} {w : Int32} (hp : p < 4) (h : W (4 * r + p) = w) (ho : ∀ x, x < 4 → x ≠ p → W (4 * r + x) ≠ w) : ww_po W r w = nI p := by
  rcases ww_po_lt W r w with h1 | ⟨y, hy, e1, e2⟩
  · exact absurd h (ww_po_none.mp h1 p hp)
  · rw [e1]
    by_cases e : y = p
    · rw [e]
    · exact absurd e2 (ho y hy e)
theorem ww_po_same {W V : Nat → Int32} {r : Nat} {w : Int32} (h : ∀ p, p < 4 → (W (4 * r + p) = w ↔ V (4 * r + p) = w)) : ww_po W r w = ww_po V r w := by
  unfold ww_po
  have h0 := h 0 (by decide)
  have h1 := h 1 (by decide)
  have h2 := h 2 (by decide)
  have h3 := h 3 (by decide)
  by_cases c0 : W (4 * r + 0) = w
  · rw [if_pos c0, if_pos (h0.mp c0)]
  · rw [if_neg c0, if_neg (fun z => c0 (h0.mpr z))]
    by_cases c1 : W (4 * r + 1) = w
    · rw [if_pos c1, if_pos (h1.mp c1)]
    · rw [if_neg c1, if_neg (fun z => c1 (h1.mpr z))]
      by_cases c2 : W (4 * r + 2) = w
      · rw [if_pos c2, if_pos (h2.mp c2)]
      · rw [if_neg c2, if_neg (fun z => c2 (h2.mpr z))]
        by_cases c3 : W (4 * r + 3) = w
        · rw [if_pos c3, if_pos (h3.mp c3)]
        · rw [if_neg c3, if_neg (fun z => c3 (h3.mpr z))]
theorem ww_1ne0 : ¬ nI 1 = nI 0 := by decide
theorem ww_inv_plug {n : Nat} {W C P X F Y : Nat → Int32} {ol r q w k : Int32} (hI : ww_inv n W C P X F Y ol) (hok : ww_okp n W r q w k) : ww_inv n (upd W (4 * r.toNatClampNeg + q.toNatClampNeg) w) (upd C (4 * r.toNatClampNeg + q.toNatClampNeg) k) (upd P (16 * r.toNatClampNeg + w.toNatClampNeg) q) X F Y (nI 1) ∧ nI (ww_cw W 40) + nI 1 = nI (ww_cw (upd W (4 * r.toNatClampNeg + q.toNatClampNeg) w) 40) := by
  obtain ⟨hn0, hn, ⟨n1, n2, n3, n4⟩, hp, -, -⟩ := hI
  obtain ⟨⟨hr, hq⟩, hw, hk1, hk2, hW, hpo⟩ := hok
  obtain ⟨i, hi, rfl⟩ := ww_rng (by omega) hr.1 hr.2
  obtain ⟨j, hj, rfl⟩ := ww_rng (by omega) hq.1 hq.2
  obtain ⟨x, hx, rfl⟩ := ww_rng (by omega) hw.1 hw.2
  obtain ⟨c, hc1, hc2, rfl⟩ := ww_19 hk1 hk2
  rw [nI_clamp (by omega)] at hpo
  rw [nI_clamp (by omega), nI_clamp (by omega)] at hW
  rw [nI_clamp (by omega), nI_clamp (by omega), nI_clamp (by omega)]
  have hpo2 := ww_po_none.mp hpo
  refine ⟨⟨hn0, hn, ⟨fun m hm => ?_, fun m hm h => ?_, n3, fun r0 p p2 h0 h1 h2 h3 h4 => ?_⟩, fun r0 w0 h0 h1 => ?_, Or.inr rfl, fun z => absurd z ww_1ne0⟩, ?_⟩
  · by_cases e : m = 4 * i + j
    · subst e; rw [pk_us]; exact Or.inr ⟨x, hx, rfl⟩
    · rw [pk_un e]; exact n1 m hm
  · by_cases e : m = 4 * i + j
    · subst e; rw [pk_us]; exact ⟨c, hc1, hc2, rfl⟩
    · rw [pk_un e] at h ⊢; exact n2 m hm h
  · by_cases e : 4 * r0 + p = 4 * i + j
    · by_cases e2 : 4 * r0 + p2 = 4 * i + j
      · omega
      · rw [e, pk_us, pk_un e2] at h3
        have er : r0 = i := by omega
        rw [er] at h3
        exact absurd h3.symm (hpo2 p2 h2)
    · by_cases e2 : 4 * r0 + p2 = 4 * i + j
      · rw [e2, pk_us, pk_un e] at h3
        have er : r0 = i := by omega
        rw [er] at h3
        exact absurd h3 (hpo2 p h1)
      · rw [pk_un e, pk_un e2] at h3
        rw [pk_un e] at h4
        exact n4 r0 p p2 h0 h1 h2 h3 h4
  · by_cases e : r0 = i ∧ w0 = x
    · obtain ⟨rfl, rfl⟩ := e
      rw [pk_us]
      refine (ww_po_eq hj (by rw [pk_us]) (fun y hy hne => ?_)).symm
      rw [pk_un (by omega)]
      exact hpo2 y hy
    · rw [pk_un (by omega), hp r0 w0 h0 h1]
      refine ww_po_same (fun y hy => ?_)
      by_cases e2 : 4 * r0 + y = 4 * i + j
      · rw [e2, pk_us, hW]
        constructor
        · intro z; exact absurd z.symm (ww_nm1 (by omega))
        · intro z
          rw [nI_eq (by omega) (by omega)] at z
          omega
      · rw [pk_un e2]
  · have z := ww_cw_upd (W := W) (k := 4 * i + j) (v := nI x) 40 (by omega)
    rw [if_pos hW, if_neg (ww_nm1 (by omega))] at z
    rw [nI_add]
    congr 1
    omega
theorem ww_inv_draw {n : Nat} {W C P X F Y : Nat → Int32} {ol r q : Int32} (hI : ww_inv n W C P X F Y ol) (hok : ww_okd n W r q) : ww_inv n (upd W (4 * r.toNatClampNeg + q.toNatClampNeg) (-1)) C (upd P (16 * r.toNatClampNeg + (W (4 * r.toNatClampNeg + q.toNatClampNeg)).toNatClampNeg) (-1)) X F Y (nI 1) ∧ nI (ww_cw W 40) - nI 1 = nI (ww_cw (upd W (4 * r.toNatClampNeg + q.toNatClampNeg) (-1)) 40) := by
  obtain ⟨hn0, hn, hN, hp, -, -⟩ := hI
  obtain ⟨n1, n2, n3, n4⟩ := id hN
  obtain ⟨⟨hr, hq⟩, hW⟩ := hok
  obtain ⟨i, hi, rfl⟩ := ww_rng (by omega) hr.1 hr.2
  obtain ⟨j, hj, rfl⟩ := ww_rng (by omega) hq.1 hq.2
  rw [nI_clamp (by omega), nI_clamp (by omega)] at hW
  rw [nI_clamp (by omega), nI_clamp (by omega)]
  obtain ⟨x, hx, ew⟩ := ww_net_w hN hn hi hj hW
  rw [ew, nI_clamp (by omega)]
  refine ⟨⟨hn0, hn, ⟨fun m hm => ?_, fun m hm h => ?_, n3, fun r0 p p2 h0 h1 h2 h3 h4 => ?_⟩, fun r0 w0 h0 h1 => ?_, Or.inr rfl, fun z => absurd z ww_1ne0⟩, ?_⟩
  · by_cases e : m = 4 * i + j
    · subst e; rw [pk_us]; exact Or.inl rfl
    · rw [pk_un e]; exact n1 m hm
  · by_cases e : m = 4 * i + j
    · subst e; rw [pk_us] at h; exact absurd rfl h
    · rw [pk_un e] at h; exact n2 m hm h
  · by_cases e : 4 * r0 + p = 4 * i + j
    · rw [e, pk_us] at h4; exact absurd rfl h4
    · by_cases e2 : 4 * r0 + p2 = 4 * i + j
      · rw [h3, e2, pk_us] at h4; exact absurd rfl h4
      · rw [pk_un e, pk_un e2] at h3
        rw [pk_un e] at h4
        exact n4 r0 p p2 h0 h1 h2 h3 h4
  · by_cases e : r0 = i ∧ w0 = x
    · obtain ⟨rfl, rfl⟩ := e
      rw [pk_us]
      refine (ww_po_none.mpr (fun y hy => ?_)).symm
      by_cases e2 : y = j
      · subst e2
        rw [pk_us]
        exact fun z => ww_nm1 (by omega) z.symm
      · rw [pk_un (by omega)]
        intro z
        exact e2 (n4 r0 y j (by omega) hy hj (by rw [z, ew]) (by rw [z]; exact ww_nm1 (by omega)))
    · rw [pk_un (by omega), hp r0 w0 h0 h1]
      refine ww_po_same (fun y hy => ?_)
      by_cases e2 : 4 * r0 + y = 4 * i + j
      · rw [e2, pk_us, ew]
        constructor
        · intro z
          rw [nI_eq (by omega) (by omega)] at z
          omega
        · intro z; exact absurd z.symm (ww_nm1 (by omega))
      · rw [pk_un e2]
  · have z := ww_cw_upd (W := W) (k := 4 * i + j) (v := -1) 40 (by omega)
    rw [if_neg hW, if_pos rfl] at z
    rw [pk_sub (by omega)]
    congr 1
    omega
theorem ww_inv_cost {n : Nat} {W C P X F Y : Nat → Int32} {ol r q k : Int32} (hI : ww_inv n W C P X F Y ol) (hok : ww_okc n W r q k) : ww_inv n W (upd C (4 * r.toNatClampNeg + q.toNatClampNeg) k) P X F Y (nI 1) := by
  obtain ⟨hn0, hn, ⟨n1, n2, n3, n4⟩, hp, -, -⟩ := hI
  obtain ⟨c, hc1, hc2, rfl⟩ := ww_19 hok.2.2.1 hok.2.2.2
  refine ⟨hn0, hn, ⟨n1, fun m hm h => ?_, n3, n4⟩, hp, Or.inr rfl, fun z => absurd z ww_1ne0⟩
  by_cases e : m = 4 * r.toNatClampNeg + q.toNatClampNeg
  · subst e; rw [pk_us]; exact ⟨c, hc1, hc2, rfl⟩
  · rw [pk_un e]; exact n2 m hm h
theorem ww_inv_turn {n : Nat} {W C P X F Y : Nat → Int32} {ol v : Int32} {x : Nat} (hI : ww_inv n W C P X F Y ol) (hv : v = nI 0 ∨ v = nI 1) : ww_inv n W C P (upd X x v) F Y (nI 1) := by
  obtain ⟨hn0, hn, ⟨n1, n2, n3, n4⟩, hp, -, -⟩ := hI
  refine ⟨hn0, hn, ⟨n1, n2, fun m hm => ?_, n4⟩, hp, Or.inr rfl, fun z => absurd z ww_1ne0⟩
  by_cases e : m = x
  · subst e; rw [pk_us]; exact hv
  · rw [pk_un e]; exact n3 m hm
theorem ww_isW_nat {w : Int32} (h : ww_isW w) : w.toNatClampNeg < 16 := by
  obtain ⟨x, hx, rfl⟩ := ww_rng (by omega) h.1 h.2
  rw [nI_clamp (by omega)]
  exact hx
theorem ww_cut_iff {W C X : Nat → Int32} {w : Int32} (hN : ww_net W C X) : (ww_isW w ∧ ¬ X w.toNatClampNeg = nI 1) ↔ (ww_isW w ∧ X w.toNatClampNeg = 0) := by
  constructor
  · intro h
    refine ⟨h.1, ?_⟩
    rcases hN.2.2.1 _ (ww_isW_nat h.1) with z | z
    · rw [z]; exact nI_0
    · exact absurd z h.2
  · intro h
    exact ⟨h.1, fun z => by rw [h.2] at z; exact absurd z (by decide)⟩
theorem ww_mend_iff {X : Nat → Int32} {w : Int32} : (ww_isW w ∧ ¬ X w.toNatClampNeg = nI 0) ↔ (ww_isW w ∧ ¬ X w.toNatClampNeg = 0) := by
  rw [nI_0]
theorem ww_cut_cnt {X : Nat → Int32} {w : Int32} (h : ww_isW w ∧ X w.toNatClampNeg = 0) : nI (ww_cc X 16) + nI 1 = nI (ww_cc (upd X w.toNatClampNeg (nI 1)) 16) := by
  have z := ww_cc_upd (W := X) (k := w.toNatClampNeg) (v := nI 1) 16 (ww_isW_nat h.1)
  rw [if_pos h.2, if_neg (by decide)] at z
  rw [nI_add]
  congr 1
  omega
theorem ww_mend_cnt {X : Nat → Int32} {w : Int32} (h : ww_isW w ∧ ¬ X w.toNatClampNeg = 0) : nI (ww_cc X 16) + (-1) = nI (ww_cc (upd X w.toNatClampNeg (nI 0)) 16) := by
  have z := ww_cc_upd (W := X) (k := w.toNatClampNeg) (v := nI 0) 16 (ww_isW_nat h.1)
  rw [if_neg h.2, if_pos nI_0] at z
  have z2 : ww_cc X 16 = ww_cc (upd X w.toNatClampNeg (nI 0)) 16 + 1 := by omega
  rw [z2]
  exact pk_m1 _
theorem ww_b2_cong {P Q : Prop} [Decidable P] [Decidable Q] (h : P ↔ Q) : ww_b2 P = ww_b2 Q := by
  by_cases c : P
  · rw [ww_b2_t c, ww_b2_t (h.mp c)]
  · rw [ww_b2_f c, ww_b2_f (fun z => c (h.mpr z))]
theorem ww_cnt_one {n : Nat} {W C X : Nat → Int32} {pl cu k v u : Int32} (h : ww_cnt n W C X pl cu k v) (g : ww_cnt n W C X pl cu k u) : v = u := by
  by_cases c0 : k = nI 0
  · rw [h.1 c0, g.1 c0]
  · by_cases c1 : k = nI 1
    · rw [h.2.1 c1, g.2.1 c1]
    · by_cases c2 : k = nI 2
      · rw [h.2.2.1 c2, g.2.2.1 c2]
      · by_cases c3 : k = nI 3
        · obtain ⟨M, e1, e2⟩ := h.2.2.2.1 c3
          obtain ⟨N, f1, f2⟩ := g.2.2.2.1 c3
          rw [e1, f1, ww_gr_one e2 f2]
        · rw [h.2.2.2.2 c0 c1 c2 c3, g.2.2.2.2 c0 c1 c2 c3]
/-- at the start -/
theorem ww_inv_start (k : Int32) : ww_inv (ww_rt k) (ww_mk 40) (fun _ => 0) (ww_mk 160) (fun _ => 0) (fun _ => 0) (fun _ => 0) (nI 1) ∧ (0 : Int32) = nI (ww_cw (ww_mk 40) 40) ∧ (0 : Int32) = nI (ww_cc (fun _ => 0) 16) := by
  have hm : ∀ m, m < 40 → ww_mk 40 m = -1 := fun m h => if_pos h
  refine ⟨⟨(ww_rt_rng k).1, (ww_rt_rng k).2, ⟨fun m h => Or.inl (hm m h), fun m h z => absurd (hm m h) z, fun m _ => Or.inl nI_0.symm, fun r p p2 h0 h1 h2 _ h4 => absurd (hm _ (by omega)) h4⟩, fun r w h0 h1 => ?_, Or.inr rfl, fun z => absurd z ww_1ne0⟩, by decide +kernel, by decide +kernel⟩
  rw [ww_po_none.mpr (fun y hy => by rw [hm _ (by omega)]; exact fun z => ww_nm1 (by omega) z.symm)]
  exact if_pos (by omega)
end
section
/-! the law's own rows: the script, calls of either object beside the other -/
section
variable {p : Program} {l : Launch} {e : Env} {R : Room} {s : State} {m : MethodId} {args : Array Value} {below : List Frame} {meth : Method} {c : Code} {H : Heap} {locs : List Loc} {cells slots : Nat} {Q : State → Prop}
variable {cc : ByteArray} {pc : Nat} {ls : Array Slot} {rest st0 As : List Value} {D : va_G} {A : Nat → Prop} {H0 : Heap} {tys : List (ClassId × FieldType)} {w w2 : va_W} {own : String}
variable {y : MethodName} {bytes : ByteArray} {maxL nL nn index ci a0 : Nat} {ret : Option FieldType} {rm : Room} {fs : List Value} {q : vw_C}
theorem ww_sld (hx : p.tables.exec = Jvm.exec) (hb : c.code = cc) {b L : Nat} {xs : Nat → Int32} (hX : va_X b L xs s H0) (hbl : b < H0.size) (hbA : ¬ A b) (hS : va_S A H0 H locs) {k : Nat} (hdg : decode cc pc = .ok (.iaload, 1)) (kk : W p l e R s m args below meth c H locs cells slots Q (F0 m (pc + 1) ls (.int (xs k) :: rest))) (h1 : k < L := by omega) (h2 : L < 2 ^ 31 := by omega) : W p l e R s m args below meth c H locs cells slots Q (F0 m pc ls (.int (nI k) :: .ref b :: rest)) := by
  refine va_sld hx hb hX hbl hbA hS (vp_in_nI h1 h2) hdg ?_
  rw [nI_clamp (by omega)]
  exact kk
/-- what is beside the callee's world stays -/
theorem ww_keep {cl : List vw_C} {H1 : Heap} (hx : ∀ (i j : Nat) (x y : Nat × va_E), w[i]? = some x → w2[j]? = some y → x.1 ≠ y.1) (hP : va_P D cl w2 H) (hk : ∀ q : Nat, q < H.size → ¬ va_A w H.size q → H1[q]? = H[q]?) : va_P D cl w2 H1 := by
  refine hP.kept (fun k q hq => ?_)
  have hl := (hP k q hq).lt
  refine hk q.1 hl (fun h => ?_)
  rcases h with ⟨i, e, h⟩ | h
  · exact hx i k (q.1, e) q h hq rfl
  · exact absurd h (by omega)
theorem ww_Dl {A : Nat → Prop} (hD : va_D A (w ++ w2)) : va_D A w := by
  refine ⟨fun i j x y hi hj e => ?_, fun k q hk => ?_⟩
  · exact hD.1 i j x y (by rw [List.getElem?_append_left (List.getElem?_eq_some_iff.mp hi).1]; exact hi) (by rw [List.getElem?_append_left (List.getElem?_eq_some_iff.mp hj).1]; exact hj) e
  · exact hD.2 k q (by rw [List.getElem?_append_left (List.getElem?_eq_some_iff.mp hk).1]; exact hk)
theorem ww_Dr {A : Nat → Prop} (hD : va_D A (w ++ w2)) : va_D A w2 := by
  have key : ∀ (i : Nat), (w ++ w2)[w.length + i]? = w2[i]? := fun i => by
    rw [List.getElem?_append_right (Nat.le_add_right _ _), Nat.add_sub_cancel_left]
  refine ⟨fun i j x y hi hj e => ?_, fun k q hk => ?_⟩
  · have := hD.1 (w.length + i) (w.length + j) x y (by rw [key]; exact hi) (by rw [key]; exact hj) e
    omega
  · exact hD.2 (w.length + k) q (by rw [key]; exact hk)
theorem ww_Dx {A : Nat → Prop} (hD : va_D A (w ++ w2)) : ∀ (i j : Nat) (x y : Nat × va_E), w[i]? = some x → w2[j]? = some y → x.1 ≠ y.1 := by
  intro i j x y hi hj e
  have hl := (List.getElem?_eq_some_iff.mp hi).1
  have := hD.1 i (w.length + j) x y (by rw [List.getElem?_append_left hl]; exact hi) (by rw [List.getElem?_append_right (Nat.le_add_right _ _), Nat.add_sub_cancel_left]; exact hj) e
  omega
/-- the law calls the first object -/
theorem ww_lawX {S : Type} {post : Int32 → S → Prop} {wf : S → va_W} (S0 : CallFix p m c cc nL s args lw_all own) (hK : va_K D ww_cl tys s) (hP : va_P D ww_cl w H) (hP2 : va_P D ww_cl w2 H) (hD : va_D A (w ++ w2)) (hS : va_S A H0 H locs) (hA : ∀ q : Nat, H0.size ≤ q → A q) (hM : Met l y (ws_ y bytes maxL ret) rm (va_Pc (.ref a0 :: As) (ww_C D tys w H.size)) (va_Qi post (fun u t => va_P D ww_cl (wf u) t.heap) (va_A w H.size)) 0 0 (va_A w H.size)) (hc : ww_cl[ci]? = some q) (he : w[0]? = some (a0, .inr (ci, fs))) (cw : CallW R s args own q.1 index y bytes maxL ret (ws_ y bytes maxL ret) rm 0 0 nn) (hn : As.length = nn) (hst : st0 = As.reverse ++ .ref a0 :: rest) (hr : (rest.map fun v => v.category).sum ≤ 8) (hsz : ls.size = nL) (hf : cells ≤ R.cells ∧ slots ≤ R.slots) (hdg : decode cc pc = .ok (.invokevirtual index, 3)) (kk : ∀ (r : Int32) (u : S) (H1 : Heap) (locs1 : List Loc), post r u → va_P D ww_cl (wf u) H1 → va_P D ww_cl w2 H1 → va_S A H0 H1 locs1 → W p l e R s m args below meth c H1 locs1 cells slots Q (F0 m (pc + 3) ls (.int r :: rest))) : W p l e R s m args below meth c H locs cells slots Q (F0 m pc ls st0) :=
  ww_rw S0 hK hP (ww_Dl hD) hS hA hM hc he cw hn hst hr hsz hf hdg (fun r u H1 locs1 h1 h2 h3 h4 => kk r u H1 locs1 h1 h2 (ww_keep (ww_Dx hD) hP2 h3) h4)
/-- the law calls the second object -/
theorem ww_lawM {S : Type} {post : Int32 → S → Prop} {wf : S → va_W} (S0 : CallFix p m c cc nL s args lw_all own) (hK : va_K D ww_cl tys s) (hP : va_P D ww_cl w H) (hP2 : va_P D ww_cl w2 H) (hD : va_D A (w2 ++ w)) (hS : va_S A H0 H locs) (hA : ∀ q : Nat, H0.size ≤ q → A q) (hM : Met l y (ws_ y bytes maxL ret) rm (va_Pc (.ref a0 :: As) (ww_C D tys w H.size)) (va_Qi post (fun u t => va_P D ww_cl (wf u) t.heap) (va_A w H.size)) 0 0 (va_A w H.size)) (hc : ww_cl[ci]? = some q) (he : w[0]? = some (a0, .inr (ci, fs))) (cw : CallW R s args own q.1 index y bytes maxL ret (ws_ y bytes maxL ret) rm 0 0 nn) (hn : As.length = nn) (hst : st0 = As.reverse ++ .ref a0 :: rest) (hr : (rest.map fun v => v.category).sum ≤ 8) (hsz : ls.size = nL) (hf : cells ≤ R.cells ∧ slots ≤ R.slots) (hdg : decode cc pc = .ok (.invokevirtual index, 3)) (kk : ∀ (r : Int32) (u : S) (H1 : Heap) (locs1 : List Loc), post r u → va_P D ww_cl (wf u) H1 → va_P D ww_cl w2 H1 → va_S A H0 H1 locs1 → W p l e R s m args below meth c H1 locs1 cells slots Q (F0 m (pc + 3) ls (.int r :: rest))) : W p l e R s m args below meth c H locs cells slots Q (F0 m pc ls st0) :=
  ww_rw S0 hK hP (ww_Dr hD) hS hA hM hc he cw hn hst hr hsz hf hdg (fun r u H1 locs1 h1 h2 h3 h4 => kk r u H1 locs1 h1 h2 (ww_keep (fun i j x y hi hj e => ww_Dx hD j i y x hj hi e.symm) hP2 h3) h4)
/-- the number that makes both objects -/
def ww_cell (L : Nat) (xs : Nat → Int32) : Int32 := if 0 < L then xs 0 else 0
/-- a static call that reads the script -/
theorem ww_roX {post : Int32 → Prop} {b L : Nat} {xs : Nat → Int32} (S : CallFix p m c cc nL s args lw_all own) (hX : va_X b L xs s H0) (hbl : b < H0.size) (hbA : ¬ A b) (hS : va_S A H0 H locs) (hM : Met l y (ws_ y bytes maxL ret) rm (va_Pc As (fun U => va_X b L xs U U.heap ∧ b < U.heap.size)) (vp_Si post) 0 0 (fun _ => False)) (cw : CallB R s args own index y bytes maxL ret (ws_ y bytes maxL ret) rm 0 0 nn ∧ (Cond.static y).before args s = true) (hn : As.length = nn) (hst : st0 = As.reverse ++ rest) (hr : (rest.map fun v => v.category).sum ≤ 8) (hsz : ls.size = nL) (hf : cells ≤ R.cells ∧ slots ≤ R.slots) (hdg : decode cc pc = .ok (.invokestatic index, 3)) (kk : ∀ r : Int32, post r → W p l e R s m args below meth c H locs cells slots Q (F0 m (pc + 3) ls (.int r :: rest))) : W p l e R s m args below meth c H locs cells slots Q (F0 m pc ls st0) := by
  have hXH : va_X b L xs s H := hX.kept (hS.2.1 b hbl hbA)
  have hr0 := va_runS (p := p) (l := l) (e := e) (R := R) (s := s) (m := m) (args := args) (below := below) (meth := meth) (c := c) (H := H) (locs := locs) (cells := cells) (slots := slots) (g := F0 m pc ls st0) (rest := rest) S hM cw ⟨fun a U g mk q => ⟨q.1, va_X.moved (u := U) (U := U.calling g mk a) (Vm.Alike.refl U.vm) q.2.1, q.2.2⟩, fun U hU hW => ⟨rfl, by rw [hU]; exact va_X.moved hW.alike hXH, by rw [hU]; exact Nat.lt_of_lt_of_le hbl hS.1⟩⟩ rfl hn hsz hst (lv_room hr) hdg hf
  intro T hT X
  obtain ⟨v, st₀, t, T', L, h0, X', hL, e1, -, ⟨r, hv, hp, hh⟩, st⟩ := hr0 T hT X
  cases hv
  obtain ⟨t2, a1, b1⟩ := kk r hp T' (by rw [e1, hh, h0]) (Stand.forget X' (fun q h => (hL q h).elim))
  exact ⟨t2, st t2 a1, b1⟩
end
set_option maxHeartbeats 4000000 in
set_option maxRecDepth 100000 in
/-- cell(script, 0) -/
theorem metX0_cell (l : Launch) (b L : Nat) (xs : Nat → Int32) (hL : L ≤ 321) : Met l yX0_cell (ws_ yX0_cell cX0_cell 2 (some .int)) ({ frames := 0, cells := 0, slots := 0, locals := 0 }) (va_Pc [.ref b, .int (nI 0)] (fun U => va_X b L xs U U.heap ∧ b < U.heap.size)) (vp_Si (fun v : Int32 => v = ww_cell L xs)) 0 0 (fun _ => False) := by
  refine Met.ofW (cc := cX0_cell) (maxL := 2) (ret := (some .int)) (by decide) rfl ?_
  intro pr e s m args below meth c s₁ B hml hv
  obtain ⟨rfl, hX, hbl⟩ := hv
  have hx := B.exec
  have hb := B.bytes
  have hret := B.returns
  have hlocks := B.notSynchronized
  have hS : va_S (fun _ => False) s.heap s.heap [] := va_S.rf
  have hl := lv_entry ([.ref b, .int (nI 0)]) (n := 2) (Nat.le_of_ble_eq_true rfl)
  rw [lg_entry_eq]
  generalize (lg_sl ([.ref b, .int (nI 0)]) ++ List.replicate (2 - (lg_sl ([.ref b, .int (nI 0)])).length) Slot.unset).toArray = ls at hl ⊢
  have hl : lv_has ls 2 [(0, .ref b), (1, .int (nI 0))] := hl
  refine lv_iload_n hx hb dX0_cell_0 rfl (lv_at hl 1 rfl) ?_
  refine lv_aload_n hx hb dX0_cell_1 rfl (lv_at hl 0 rfl) ?_
  refine va_slen hx hb hX hbl (fun h => h) hS dX0_cell_2 ?_
  refine ww_top (y := nI L) rfl ?_
  refine ww_icmp_ge (tgt := 12) hx hb dX0_cell_3 (by decide) (fun c_3 => ?_) (fun c_3 => ?_)
  · refine lv_iconst (v := 0) hx hb dX0_cell_12 (by decide) ?_
    exact W.iret hx hb hret (fun t9 ht9 hW9 => ⟨_, rfl, (if_neg (by omega)).symm, ht9⟩) (fun q h => by cases h) dX0_cell_13
  · refine lv_aload_n hx hb dX0_cell_6 rfl (lv_at hl 0 rfl) ?_
    refine lv_iload_n hx hb dX0_cell_7 rfl (lv_at hl 1 rfl) ?_
    refine ww_sld hx hb hX hbl (fun h => h) hS dX0_cell_8 ?_
    refine lv_goto (tgt := 13) hx hb dX0_cell_9 (by decide) ?_
    exact W.iret hx hb hret (fun t9 ht9 hW9 => ⟨_, rfl, (if_pos c_3).symm, ht9⟩) (fun q h => by cases h) dX0_cell_13
end
section
/-! THE CLAIM OUT OF ONE WALK OF THE LAW'S BODY. Your part is whole_start (and what it stands on); all else here is the same for every law, but numbers. -/
def R_law : String := "WireWaysLaw"
def lw_P (b : Addr) (xs : List Int32) (args : Array Value) (s : State) : Prop := args = #[.ref b] ∧ s.IntsAt b xs ∧ xs.length ≤ 321 ∧ (Jvm.Cond.and given_1 narrow_1).before args s = true
def lw_Q (_ : Array Value) (s : State) (o : Outcome) (t : State) : Prop := o = .returned (some (.int 1)) ∧ Framed s o t [] 600000 7290000
def lw_Z (below : List Frame) (a : Array Value) (s : State) : State → Prop := fun t => ∃ o, t.status = .running ∧ Ended t below o ∧ lw_Q a s o t
/-- the law's own end, with 1 on the stack, nothing written that was there before, its room as the claim has it -/
theorem lw_ret {p : Program} {l : Launch} {e : Env} {s : State} {m : MethodId} {below : List Frame} {meth : Method} {c : Code} {b : Nat} (hx : p.tables.exec = Jvm.exec) (hb : c.code = code) (hr : meth.sig.returnType = ret) (hlocks : meth.locks = false) {pc : Nat} {H : Heap} {ls : Array Slot} (hdg : decode code pc = .ok (.ireturn, 1)) : W p l e room_1 s m #[Value.ref b] below meth c H [] 600000 7290000 (lw_Z below #[Value.ref b] s) (F0 m pc ls [.int 1]) := by
  intro T hT X
  obtain ⟨fs, hret, hrun, hended, hW, hframe⟩ := X.leave (v := some (.int 1)) (hlocks := hlocks) (fun h => by rw [hr] at h; cases h)
  have hmeth' : T.vm.method? m = some meth := X.method'
  refine ⟨T.setFrames fs, ?_, .returned (some (.int 1)), hrun, hended, rfl, ⟨_, rfl⟩, hW, hframe⟩
  jvm_step X.here [X.here.top, hx, hb, hdg, hmeth', hr, ret, narrow_b1]
  (try refine ⟨rfl, ?_⟩); (try refine ⟨rfl, ?_⟩)
  first | (intro acts; rw [hret _ acts rfl rfl rfl]) | rw [hret _ _ rfl rfl rfl]
  exact Steps.refl _
/-- what holds at the law's entry: the machine, the code, the tables' words (any of lw_tbl by 'hts w (by decide +kernel)'), the script of L ints xs at the cell b, what the Statement gives of the start (any of its parts by flat_of_before) -/
def lw_At (p : Program) (s : State) (m : MethodId) (meth : Method) (c : Code) (b L : Nat) (xs : Nat → Int32) : Prop :=
  p.tables.exec = Jvm.exec ∧ c.code = code ∧ meth.sig.returnType = ret ∧ c.maxLocals = 4 ∧ s.vm.findClass R_law = some m.cls ∧ (∀ w ∈ lw_tbl, w.before #[Value.ref b] s = true) ∧ va_X b L xs s s.heap ∧ b < s.heap.size ∧ meth.locks = false ∧ (Jvm.Cond.and given_1 narrow_1).before #[Value.ref b] s = true
end
section
/-! the law: one call of the script after another -/
theorem ww_room {L i : Nat} (hL : L ≤ 321) (hi : i ≤ L + 1) (h : ¬ nI L - nI 5 < nI i) : i + 5 ≤ L := by
  rw [Int32.lt_iff_toInt_lt, pk_sub_toInt (by omega) (by decide), nI_toInt (by omega)] at h
  omega
set_option maxHeartbeats 4000000 in
set_option maxRecDepth 100000 in
/-- plug: both answer the same, and what holds stays -/
theorem law_plug {p : Program} {l : Launch} {e : Env} {s : State} {m : MethodId} {below : List Frame} {meth : Method} {c : Code} {b L : Nat} {xs : Nat → Int32} {D : va_G} {ax am : Nat → Nat} {dx dm : Nat → ClassId} {n : Nat} (hL : L ≤ 321) (C0 : lw_At p s m meth c b L xs) (hKx : va_K D ww_cl (ww_tX dx) s) (hKm : va_K D ww_cl (ww_tM dm) s) {i : Nat} (hi : i + 5 ≤ L) (k567 : ∀ (fW fC fP fX fF fY : Nat → Int32) (ol pl cu : Int32) (fZ : Nat → Int32) (wp wr : Int32), ww_inv n fW fC fP fX fF fY ol → pl = nI (ww_cw fW 40) → cu = nI (ww_cc fX 16) → ∀ (H : Heap) (locs : List Loc), va_P D ww_cl (ww_X ax dx n fW fC fP fX fF fY ol pl cu) H → va_P D ww_cl (ww_M am dm n fW fC fX fZ wp wr) H → va_D (fun q : Nat => s.heap.size ≤ q) (ww_X ax dx n fW fC fP fX fF fY ol pl cu ++ ww_M am dm n fW fC fX fZ wp wr) → va_S (fun q : Nat => s.heap.size ≤ q) s.heap H locs → ∀ (ls : Array Slot), lv_has ls 4 [(0, .ref b), (1, .ref (ax 0)), (2, .ref (am 0)), (3, .int (nI i))] → W p l e room_1 s m #[Value.ref b] below meth c H locs 12 899 (lw_Z below #[Value.ref b] s) (F0 m 567 ls [])) : ∀ (fW fC fP fX fF fY : Nat → Int32) (ol pl cu : Int32) (fZ : Nat → Int32) (wp wr : Int32), ww_inv n fW fC fP fX fF fY ol → pl = nI (ww_cw fW 40) → cu = nI (ww_cc fX 16) → ∀ (H : Heap) (locs : List Loc), va_P D ww_cl (ww_X ax dx n fW fC fP fX fF fY ol pl cu) H → va_P D ww_cl (ww_M am dm n fW fC fX fZ wp wr) H → va_D (fun q : Nat => s.heap.size ≤ q) (ww_X ax dx n fW fC fP fX fF fY ol pl cu ++ ww_M am dm n fW fC fX fZ wp wr) → va_S (fun q : Nat => s.heap.size ≤ q) s.heap H locs → ∀ (ls : Array Slot), lv_has ls 4 [(0, .ref b), (1, .ref (ax 0)), (2, .ref (am 0)), (3, .int (nI i))] → W p l e room_1 s m #[Value.ref b] below meth c H locs 12 899 (lw_Z below #[Value.ref b] s) (F0 m 100 ls []) := by
  obtain ⟨hx, hb, hr, hml, hown, hts0, hX, hbl, hlocks, hgv⟩ := id C0
  have hts : ∀ w ∈ lw_all, w.before #[Value.ref b] s = true := fun w h => hts0 w (lw_all_tbl h)
  have hA : ∀ q : Nat, s.heap.size ≤ q → (fun q : Nat => s.heap.size ≤ q) q := fun _ h => h
  have hbA : ¬ (fun q : Nat => s.heap.size ≤ q) b := Nat.not_le.mpr hbl
  intro fW fC fP fX fF fY ol pl cu fZ wp wr hI epl ecu H locs hPx hPm hD hS ls hl
  subst epl
  subst ecu
  obtain ⟨hn0, hn, hN, hpin, -, -⟩ := id hI
  refine lv_aload_n hx hb dL_law_100 rfl (lv_at hl 1 rfl) ?_
  refine lv_aload_n hx hb dL_law_101 rfl (lv_at hl 0 rfl) ?_
  refine lv_iload_n hx hb dL_law_102 rfl (lv_at hl 3 rfl) ?_
  refine lv_iconst (v := nI 1) hx hb dL_law_103 (by decide) ?_
  refine ww_iadd hx hb dL_law_104 ?_
  refine ww_sld hx hb hX hbl hbA hS dL_law_105 ?_
  refine lv_aload_n hx hb dL_law_106 rfl (lv_at hl 0 rfl) ?_
  refine lv_iload_n hx hb dL_law_107 rfl (lv_at hl 3 rfl) ?_
  refine lv_iconst (v := nI 2) hx hb dL_law_108 (by decide) ?_
  refine ww_iadd hx hb dL_law_109 ?_
  refine ww_sld hx hb hX hbl hbA hS dL_law_110 ?_
  refine lv_aload_n hx hb dL_law_111 rfl (lv_at hl 0 rfl) ?_
  refine lv_iload_n hx hb dL_law_112 rfl (lv_at hl 3 rfl) ?_
  refine lv_iconst (v := nI 3) hx hb dL_law_113 (by decide) ?_
  refine ww_iadd hx hb dL_law_114 ?_
  refine ww_sld hx hb hX hbl hbA hS dL_law_115 ?_
  refine lv_aload_n hx hb dL_law_116 rfl (lv_at hl 0 rfl) ?_
  refine lv_iload_n hx hb dL_law_117 rfl (lv_at hl 3 rfl) ?_
  refine lv_iconst (v := nI 4) hx hb dL_law_118 (by decide) ?_
  refine ww_iadd hx hb dL_law_119 ?_
  refine ww_sld hx hb hX hbl hbA hS dL_law_120 ?_
  refine ww_lawX (As := [.int (xs (i + 1)), .int (xs (i + 2)), .int (xs (i + 3)), .int (xs (i + 4))]) (rest := []) ⟨hx, hb, hml, hown, hts⟩ hKx hPx hPm hD hS hA (metX1_plug l D ax dx n fW fC fP fX fF fY ol (nI (ww_cw fW 40)) (nI (ww_cc fX 16)) _ (xs (i + 1)) (xs (i + 2)) (xs (i + 3)) (xs (i + 4)) hn hpin) rfl rfl (cwV 4 hts (lw_V q69 q70 q71 q19 q72) rfl rfl rfl (by decide +kernel) ⟨Nat.le_of_ble_eq_true rfl, Nat.le_of_ble_eq_true rfl⟩) rfl rfl (Nat.le_of_ble_eq_true rfl) hl.1 ⟨by decide, by decide⟩ dL_law_121 (fun r_121 u_121 H locs h_121 hPx hPm hS => ?_)
  obtain ⟨e121, g121, f121⟩ := h_121
  have hPx : va_P D ww_cl (ww_X ax dx n u_121.1 u_121.2.1 u_121.2.2.1 fX fF fY u_121.2.2.2.1 u_121.2.2.2.2 (nI (ww_cc fX 16))) H := hPx
  have hPm : va_P D ww_cl (ww_M am dm n fW fC fX fZ wp wr) H := hPm
  have hD : va_D (fun q : Nat => s.heap.size ≤ q) (ww_X ax dx n u_121.1 u_121.2.1 u_121.2.2.1 fX fF fY u_121.2.2.2.1 u_121.2.2.2.2 (nI (ww_cc fX 16)) ++ ww_M am dm n fW fC fX fZ wp wr) := ww_Dad hD rfl
  refine lv_aload_n hx hb dL_law_124 rfl (lv_at hl 2 rfl) ?_
  refine lv_aload_n hx hb dL_law_125 rfl (lv_at hl 0 rfl) ?_
  refine lv_iload_n hx hb dL_law_126 rfl (lv_at hl 3 rfl) ?_
  refine lv_iconst (v := nI 1) hx hb dL_law_127 (by decide) ?_
  refine ww_iadd hx hb dL_law_128 ?_
  refine ww_sld hx hb hX hbl hbA hS dL_law_129 ?_
  refine lv_aload_n hx hb dL_law_130 rfl (lv_at hl 0 rfl) ?_
  refine lv_iload_n hx hb dL_law_131 rfl (lv_at hl 3 rfl) ?_
  refine lv_iconst (v := nI 2) hx hb dL_law_132 (by decide) ?_
  refine ww_iadd hx hb dL_law_133 ?_
  refine ww_sld hx hb hX hbl hbA hS dL_law_134 ?_
  refine lv_aload_n hx hb dL_law_135 rfl (lv_at hl 0 rfl) ?_
  refine lv_iload_n hx hb dL_law_136 rfl (lv_at hl 3 rfl) ?_
  refine lv_iconst (v := nI 3) hx hb dL_law_137 (by decide) ?_
  refine ww_iadd hx hb dL_law_138 ?_
  refine ww_sld hx hb hX hbl hbA hS dL_law_139 ?_
  refine lv_aload_n hx hb dL_law_140 rfl (lv_at hl 0 rfl) ?_
  refine lv_iload_n hx hb dL_law_141 rfl (lv_at hl 3 rfl) ?_
  refine lv_iconst (v := nI 4) hx hb dL_law_142 (by decide) ?_
  refine ww_iadd hx hb dL_law_143 ?_
  refine ww_sld hx hb hX hbl hbA hS dL_law_144 ?_
  refine ww_lawM (As := [.int (xs (i + 1)), .int (xs (i + 2)), .int (xs (i + 3)), .int (xs (i + 4))]) (rest := [.int r_121]) ⟨hx, hb, hml, hown, hts⟩ hKm hPm hPx hD hS hA (metX2_plug l D am dm n fW fC fX fZ wp wr _ (xs (i + 1)) (xs (i + 2)) (xs (i + 3)) (xs (i + 4)) hn) rfl rfl (cwV 4 hts (lw_V q182 q183 q184 q21 q185) rfl rfl rfl (by decide +kernel) ⟨Nat.le_of_ble_eq_true rfl, Nat.le_of_ble_eq_true rfl⟩) rfl rfl (Nat.le_of_ble_eq_true rfl) hl.1 ⟨by decide, by decide⟩ dL_law_145 (fun r_145 u_145 H locs h_145 hPm hPx hS => ?_)
  obtain ⟨e145, g145, f145⟩ := h_145
  have hPx : va_P D ww_cl (ww_X ax dx n u_121.1 u_121.2.1 u_121.2.2.1 fX fF fY u_121.2.2.2.1 u_121.2.2.2.2 (nI (ww_cc fX 16))) H := hPx
  have hPm : va_P D ww_cl (ww_M am dm n u_145.1 u_145.2 fX fZ wp wr) H := hPm
  have hD : va_D (fun q : Nat => s.heap.size ≤ q) (ww_X ax dx n u_121.1 u_121.2.1 u_121.2.2.1 fX fF fY u_121.2.2.2.1 u_121.2.2.2.2 (nI (ww_cc fX 16)) ++ ww_M am dm n u_145.1 u_145.2 fX fZ wp wr) := ww_Dad hD rfl
  refine lv_icmp_eq (tgt := 567) hx hb dL_law_148 (by decide) (fun c_148 => ?_) (fun c_148 => ?_)
  · by_cases hok : ww_okp n fW (xs (i + 1)) (xs (i + 2)) (xs (i + 3)) (xs (i + 4))
    · obtain rfl := g121 hok
      obtain rfl := g145 hok
      exact k567 _ _ _ _ _ _ _ _ _ _ _ _ (ww_inv_plug hI hok).1 (ww_inv_plug hI hok).2 rfl H locs hPx hPm hD hS ls (lv_sub hl [0, 1, 2, 3] rfl)
    · obtain rfl := f121 hok
      obtain rfl := f145 hok
      exact k567 _ _ _ _ _ _ _ _ _ _ _ _ hI rfl rfl H locs hPx hPm hD hS ls (lv_sub hl [0, 1, 2, 3] rfl)
  · exact absurd (by rw [e121, e145]) c_148
set_option maxHeartbeats 4000000 in
set_option maxRecDepth 100000 in
/-- draw: both answer the same, and what holds stays -/
theorem law_draw {p : Program} {l : Launch} {e : Env} {s : State} {m : MethodId} {below : List Frame} {meth : Method} {c : Code} {b L : Nat} {xs : Nat → Int32} {D : va_G} {ax am : Nat → Nat} {dx dm : Nat → ClassId} {n : Nat} (hL : L ≤ 321) (C0 : lw_At p s m meth c b L xs) (hKx : va_K D ww_cl (ww_tX dx) s) (hKm : va_K D ww_cl (ww_tM dm) s) {i : Nat} (hi : i + 5 ≤ L) (k567 : ∀ (fW fC fP fX fF fY : Nat → Int32) (ol pl cu : Int32) (fZ : Nat → Int32) (wp wr : Int32), ww_inv n fW fC fP fX fF fY ol → pl = nI (ww_cw fW 40) → cu = nI (ww_cc fX 16) → ∀ (H : Heap) (locs : List Loc), va_P D ww_cl (ww_X ax dx n fW fC fP fX fF fY ol pl cu) H → va_P D ww_cl (ww_M am dm n fW fC fX fZ wp wr) H → va_D (fun q : Nat => s.heap.size ≤ q) (ww_X ax dx n fW fC fP fX fF fY ol pl cu ++ ww_M am dm n fW fC fX fZ wp wr) → va_S (fun q : Nat => s.heap.size ≤ q) s.heap H locs → ∀ (ls : Array Slot), lv_has ls 4 [(0, .ref b), (1, .ref (ax 0)), (2, .ref (am 0)), (3, .int (nI i))] → W p l e room_1 s m #[Value.ref b] below meth c H locs 12 899 (lw_Z below #[Value.ref b] s) (F0 m 567 ls [])) : ∀ (fW fC fP fX fF fY : Nat → Int32) (ol pl cu : Int32) (fZ : Nat → Int32) (wp wr : Int32), ww_inv n fW fC fP fX fF fY ol → pl = nI (ww_cw fW 40) → cu = nI (ww_cc fX 16) → ∀ (H : Heap) (locs : List Loc), va_P D ww_cl (ww_X ax dx n fW fC fP fX fF fY ol pl cu) H → va_P D ww_cl (ww_M am dm n fW fC fX fZ wp wr) H → va_D (fun q : Nat => s.heap.size ≤ q) (ww_X ax dx n fW fC fP fX fF fY ol pl cu ++ ww_M am dm n fW fC fX fZ wp wr) → va_S (fun q : Nat => s.heap.size ≤ q) s.heap H locs → ∀ (ls : Array Slot), lv_has ls 4 [(0, .ref b), (1, .ref (ax 0)), (2, .ref (am 0)), (3, .int (nI i))] → W p l e room_1 s m #[Value.ref b] below meth c H locs 12 899 (lw_Z below #[Value.ref b] s) (F0 m 153 ls []) := by
  obtain ⟨hx, hb, hr, hml, hown, hts0, hX, hbl, hlocks, hgv⟩ := id C0
  have hts : ∀ w ∈ lw_all, w.before #[Value.ref b] s = true := fun w h => hts0 w (lw_all_tbl h)
  have hA : ∀ q : Nat, s.heap.size ≤ q → (fun q : Nat => s.heap.size ≤ q) q := fun _ h => h
  have hbA : ¬ (fun q : Nat => s.heap.size ≤ q) b := Nat.not_le.mpr hbl
  intro fW fC fP fX fF fY ol pl cu fZ wp wr hI epl ecu H locs hPx hPm hD hS ls hl
  subst epl
  subst ecu
  obtain ⟨hn0, hn, hN, hpin, -, -⟩ := id hI
  refine lv_aload_n hx hb dL_law_153 rfl (lv_at hl 1 rfl) ?_
  refine lv_aload_n hx hb dL_law_154 rfl (lv_at hl 0 rfl) ?_
  refine lv_iload_n hx hb dL_law_155 rfl (lv_at hl 3 rfl) ?_
  refine lv_iconst (v := nI 1) hx hb dL_law_156 (by decide) ?_
  refine ww_iadd hx hb dL_law_157 ?_
  refine ww_sld hx hb hX hbl hbA hS dL_law_158 ?_
  refine lv_aload_n hx hb dL_law_159 rfl (lv_at hl 0 rfl) ?_
  refine lv_iload_n hx hb dL_law_160 rfl (lv_at hl 3 rfl) ?_
  refine lv_iconst (v := nI 2) hx hb dL_law_161 (by decide) ?_
  refine ww_iadd hx hb dL_law_162 ?_
  refine ww_sld hx hb hX hbl hbA hS dL_law_163 ?_
  refine ww_lawX (As := [.int (xs (i + 1)), .int (xs (i + 2))]) (rest := []) ⟨hx, hb, hml, hown, hts⟩ hKx hPx hPm hD hS hA (metX1_draw l D ax dx n fW fC fP fX fF fY ol (nI (ww_cw fW 40)) (nI (ww_cc fX 16)) _ (xs (i + 1)) (xs (i + 2)) hn hN) rfl rfl (cwV 2 hts (lw_V q77 q78 q79 q19 q80) rfl rfl rfl (by decide +kernel) ⟨Nat.le_of_ble_eq_true rfl, Nat.le_of_ble_eq_true rfl⟩) rfl rfl (Nat.le_of_ble_eq_true rfl) hl.1 ⟨by decide, by decide⟩ dL_law_164 (fun r_164 u_164 H locs h_164 hPx hPm hS => ?_)
  obtain ⟨e164, g164, f164⟩ := h_164
  have hPx : va_P D ww_cl (ww_X ax dx n u_164.1 fC u_164.2.1 fX fF fY u_164.2.2.1 u_164.2.2.2 (nI (ww_cc fX 16))) H := hPx
  have hPm : va_P D ww_cl (ww_M am dm n fW fC fX fZ wp wr) H := hPm
  have hD : va_D (fun q : Nat => s.heap.size ≤ q) (ww_X ax dx n u_164.1 fC u_164.2.1 fX fF fY u_164.2.2.1 u_164.2.2.2 (nI (ww_cc fX 16)) ++ ww_M am dm n fW fC fX fZ wp wr) := ww_Dad hD rfl
  refine lv_aload_n hx hb dL_law_167 rfl (lv_at hl 2 rfl) ?_
  refine lv_aload_n hx hb dL_law_168 rfl (lv_at hl 0 rfl) ?_
  refine lv_iload_n hx hb dL_law_169 rfl (lv_at hl 3 rfl) ?_
  refine lv_iconst (v := nI 1) hx hb dL_law_170 (by decide) ?_
  refine ww_iadd hx hb dL_law_171 ?_
  refine ww_sld hx hb hX hbl hbA hS dL_law_172 ?_
  refine lv_aload_n hx hb dL_law_173 rfl (lv_at hl 0 rfl) ?_
  refine lv_iload_n hx hb dL_law_174 rfl (lv_at hl 3 rfl) ?_
  refine lv_iconst (v := nI 2) hx hb dL_law_175 (by decide) ?_
  refine ww_iadd hx hb dL_law_176 ?_
  refine ww_sld hx hb hX hbl hbA hS dL_law_177 ?_
  refine ww_lawM (As := [.int (xs (i + 1)), .int (xs (i + 2))]) (rest := [.int r_164]) ⟨hx, hb, hml, hown, hts⟩ hKm hPm hPx hD hS hA (metX2_draw l D am dm n fW fC fX fZ wp wr _ (xs (i + 1)) (xs (i + 2)) hn) rfl rfl (cwV 2 hts (lw_V q201 q202 q203 q21 q204) rfl rfl rfl (by decide +kernel) ⟨Nat.le_of_ble_eq_true rfl, Nat.le_of_ble_eq_true rfl⟩) rfl rfl (Nat.le_of_ble_eq_true rfl) hl.1 ⟨by decide, by decide⟩ dL_law_178 (fun r_178 u_178 H locs h_178 hPm hPx hS => ?_)
  obtain ⟨e178, g178, f178⟩ := h_178
  have hPx : va_P D ww_cl (ww_X ax dx n u_164.1 fC u_164.2.1 fX fF fY u_164.2.2.1 u_164.2.2.2 (nI (ww_cc fX 16))) H := hPx
  have hPm : va_P D ww_cl (ww_M am dm n u_178 fC fX fZ wp wr) H := hPm
  have hD : va_D (fun q : Nat => s.heap.size ≤ q) (ww_X ax dx n u_164.1 fC u_164.2.1 fX fF fY u_164.2.2.1 u_164.2.2.2 (nI (ww_cc fX 16)) ++ ww_M am dm n u_178 fC fX fZ wp wr) := ww_Dad hD rfl
  refine lv_icmp_eq (tgt := 567) hx hb dL_law_181 (by decide) (fun c_181 => ?_) (fun c_181 => ?_)
  · by_cases hok : ww_okd n fW (xs (i + 1)) (xs (i + 2))
    · obtain rfl := g164 hok
      obtain rfl := g178 hok
      exact k567 _ _ _ _ _ _ _ _ _ _ _ _ (ww_inv_draw hI hok).1 (ww_inv_draw hI hok).2 rfl H locs hPx hPm hD hS ls (lv_sub hl [0, 1, 2, 3] rfl)
    · obtain rfl := f164 hok
      rw [f178 hok] at hPm hD
      exact k567 _ _ _ _ _ _ _ _ _ _ _ _ hI rfl rfl H locs hPx hPm hD hS ls (lv_sub hl [0, 1, 2, 3] rfl)
  · exact absurd (by rw [e164, e178]) c_181
set_option maxHeartbeats 4000000 in
set_option maxRecDepth 100000 in
/-- cost: both answer the same, and what holds stays -/
theorem law_cost {p : Program} {l : Launch} {e : Env} {s : State} {m : MethodId} {below : List Frame} {meth : Method} {c : Code} {b L : Nat} {xs : Nat → Int32} {D : va_G} {ax am : Nat → Nat} {dx dm : Nat → ClassId} {n : Nat} (hL : L ≤ 321) (C0 : lw_At p s m meth c b L xs) (hKx : va_K D ww_cl (ww_tX dx) s) (hKm : va_K D ww_cl (ww_tM dm) s) {i : Nat} (hi : i + 5 ≤ L) (k567 : ∀ (fW fC fP fX fF fY : Nat → Int32) (ol pl cu : Int32) (fZ : Nat → Int32) (wp wr : Int32), ww_inv n fW fC fP fX fF fY ol → pl = nI (ww_cw fW 40) → cu = nI (ww_cc fX 16) → ∀ (H : Heap) (locs : List Loc), va_P D ww_cl (ww_X ax dx n fW fC fP fX fF fY ol pl cu) H → va_P D ww_cl (ww_M am dm n fW fC fX fZ wp wr) H → va_D (fun q : Nat => s.heap.size ≤ q) (ww_X ax dx n fW fC fP fX fF fY ol pl cu ++ ww_M am dm n fW fC fX fZ wp wr) → va_S (fun q : Nat => s.heap.size ≤ q) s.heap H locs → ∀ (ls : Array Slot), lv_has ls 4 [(0, .ref b), (1, .ref (ax 0)), (2, .ref (am 0)), (3, .int (nI i))] → W p l e room_1 s m #[Value.ref b] below meth c H locs 12 899 (lw_Z below #[Value.ref b] s) (F0 m 567 ls [])) : ∀ (fW fC fP fX fF fY : Nat → Int32) (ol pl cu : Int32) (fZ : Nat → Int32) (wp wr : Int32), ww_inv n fW fC fP fX fF fY ol → pl = nI (ww_cw fW 40) → cu = nI (ww_cc fX 16) → ∀ (H : Heap) (locs : List Loc), va_P D ww_cl (ww_X ax dx n fW fC fP fX fF fY ol pl cu) H → va_P D ww_cl (ww_M am dm n fW fC fX fZ wp wr) H → va_D (fun q : Nat => s.heap.size ≤ q) (ww_X ax dx n fW fC fP fX fF fY ol pl cu ++ ww_M am dm n fW fC fX fZ wp wr) → va_S (fun q : Nat => s.heap.size ≤ q) s.heap H locs → ∀ (ls : Array Slot), lv_has ls 4 [(0, .ref b), (1, .ref (ax 0)), (2, .ref (am 0)), (3, .int (nI i))] → W p l e room_1 s m #[Value.ref b] below meth c H locs 12 899 (lw_Z below #[Value.ref b] s) (F0 m 186 ls []) := by
  obtain ⟨hx, hb, hr, hml, hown, hts0, hX, hbl, hlocks, hgv⟩ := id C0
  have hts : ∀ w ∈ lw_all, w.before #[Value.ref b] s = true := fun w h => hts0 w (lw_all_tbl h)
  have hA : ∀ q : Nat, s.heap.size ≤ q → (fun q : Nat => s.heap.size ≤ q) q := fun _ h => h
  have hbA : ¬ (fun q : Nat => s.heap.size ≤ q) b := Nat.not_le.mpr hbl
  intro fW fC fP fX fF fY ol pl cu fZ wp wr hI epl ecu H locs hPx hPm hD hS ls hl
  subst epl
  subst ecu
  obtain ⟨hn0, hn, hN, hpin, -, -⟩ := id hI
  refine lv_aload_n hx hb dL_law_186 rfl (lv_at hl 1 rfl) ?_
  refine lv_aload_n hx hb dL_law_187 rfl (lv_at hl 0 rfl) ?_
  refine lv_iload_n hx hb dL_law_188 rfl (lv_at hl 3 rfl) ?_
  refine lv_iconst (v := nI 1) hx hb dL_law_189 (by decide) ?_
  refine ww_iadd hx hb dL_law_190 ?_
  refine ww_sld hx hb hX hbl hbA hS dL_law_191 ?_
  refine lv_aload_n hx hb dL_law_192 rfl (lv_at hl 0 rfl) ?_
  refine lv_iload_n hx hb dL_law_193 rfl (lv_at hl 3 rfl) ?_
  refine lv_iconst (v := nI 2) hx hb dL_law_194 (by decide) ?_
  refine ww_iadd hx hb dL_law_195 ?_
  refine ww_sld hx hb hX hbl hbA hS dL_law_196 ?_
  refine lv_aload_n hx hb dL_law_197 rfl (lv_at hl 0 rfl) ?_
  refine lv_iload_n hx hb dL_law_198 rfl (lv_at hl 3 rfl) ?_
  refine lv_iconst (v := nI 3) hx hb dL_law_199 (by decide) ?_
  refine ww_iadd hx hb dL_law_200 ?_
  refine ww_sld hx hb hX hbl hbA hS dL_law_201 ?_
  refine ww_lawX (As := [.int (xs (i + 1)), .int (xs (i + 2)), .int (xs (i + 3))]) (rest := []) ⟨hx, hb, hml, hown, hts⟩ hKx hPx hPm hD hS hA (metX1_cost l D ax dx n fW fC fP fX fF fY ol (nI (ww_cw fW 40)) (nI (ww_cc fX 16)) _ (xs (i + 1)) (xs (i + 2)) (xs (i + 3)) hn) rfl rfl (cwV 3 hts (lw_V q81 q82 q83 q19 q84) rfl rfl rfl (by decide +kernel) ⟨Nat.le_of_ble_eq_true rfl, Nat.le_of_ble_eq_true rfl⟩) rfl rfl (Nat.le_of_ble_eq_true rfl) hl.1 ⟨by decide, by decide⟩ dL_law_202 (fun r_202 u_202 H locs h_202 hPx hPm hS => ?_)
  obtain ⟨g202, f202⟩ := h_202
  have hPx : va_P D ww_cl (ww_X ax dx n fW u_202.1 fP fX fF fY u_202.2 (nI (ww_cw fW 40)) (nI (ww_cc fX 16))) H := hPx
  have hPm : va_P D ww_cl (ww_M am dm n fW fC fX fZ wp wr) H := hPm
  have hD : va_D (fun q : Nat => s.heap.size ≤ q) (ww_X ax dx n fW u_202.1 fP fX fF fY u_202.2 (nI (ww_cw fW 40)) (nI (ww_cc fX 16)) ++ ww_M am dm n fW fC fX fZ wp wr) := ww_Dad hD rfl
  refine lv_aload_n hx hb dL_law_205 rfl (lv_at hl 2 rfl) ?_
  refine lv_aload_n hx hb dL_law_206 rfl (lv_at hl 0 rfl) ?_
  refine lv_iload_n hx hb dL_law_207 rfl (lv_at hl 3 rfl) ?_
  refine lv_iconst (v := nI 1) hx hb dL_law_208 (by decide) ?_
  refine ww_iadd hx hb dL_law_209 ?_
  refine ww_sld hx hb hX hbl hbA hS dL_law_210 ?_
  refine lv_aload_n hx hb dL_law_211 rfl (lv_at hl 0 rfl) ?_
  refine lv_iload_n hx hb dL_law_212 rfl (lv_at hl 3 rfl) ?_
  refine lv_iconst (v := nI 2) hx hb dL_law_213 (by decide) ?_
  refine ww_iadd hx hb dL_law_214 ?_
  refine ww_sld hx hb hX hbl hbA hS dL_law_215 ?_
  refine lv_aload_n hx hb dL_law_216 rfl (lv_at hl 0 rfl) ?_
  refine lv_iload_n hx hb dL_law_217 rfl (lv_at hl 3 rfl) ?_
  refine lv_iconst (v := nI 3) hx hb dL_law_218 (by decide) ?_
  refine ww_iadd hx hb dL_law_219 ?_
  refine ww_sld hx hb hX hbl hbA hS dL_law_220 ?_
  refine ww_lawM (As := [.int (xs (i + 1)), .int (xs (i + 2)), .int (xs (i + 3))]) (rest := [.int r_202]) ⟨hx, hb, hml, hown, hts⟩ hKm hPm hPx hD hS hA (metX2_cost l D am dm n fW fC fX fZ wp wr _ (xs (i + 1)) (xs (i + 2)) (xs (i + 3)) hn) rfl rfl (cwV 3 hts (lw_V q205 q206 q207 q21 q208) rfl rfl rfl (by decide +kernel) ⟨Nat.le_of_ble_eq_true rfl, Nat.le_of_ble_eq_true rfl⟩) rfl rfl (Nat.le_of_ble_eq_true rfl) hl.1 ⟨by decide, by decide⟩ dL_law_221 (fun r_221 u_221 H locs h_221 hPm hPx hS => ?_)
  obtain ⟨g221, f221⟩ := h_221
  have hPx : va_P D ww_cl (ww_X ax dx n fW u_202.1 fP fX fF fY u_202.2 (nI (ww_cw fW 40)) (nI (ww_cc fX 16))) H := hPx
  have hPm : va_P D ww_cl (ww_M am dm n fW u_221 fX fZ wp wr) H := hPm
  have hD : va_D (fun q : Nat => s.heap.size ≤ q) (ww_X ax dx n fW u_202.1 fP fX fF fY u_202.2 (nI (ww_cw fW 40)) (nI (ww_cc fX 16)) ++ ww_M am dm n fW u_221 fX fZ wp wr) := ww_Dad hD rfl
  refine lv_icmp_eq (tgt := 567) hx hb dL_law_224 (by decide) (fun c_224 => ?_) (fun c_224 => ?_)
  · by_cases hok : ww_okc n fW (xs (i + 1)) (xs (i + 2)) (xs (i + 3))
    · obtain ⟨-, rfl⟩ := g202 hok
      obtain ⟨-, rfl⟩ := g221 hok
      exact k567 _ _ _ _ _ _ _ _ _ _ _ _ (ww_inv_cost hI hok) rfl rfl H locs hPx hPm hD hS ls (lv_sub hl [0, 1, 2, 3] rfl)
    · obtain ⟨-, rfl⟩ := f202 hok
      rw [(f221 hok).2] at hPm hD
      exact k567 _ _ _ _ _ _ _ _ _ _ _ _ hI rfl rfl H locs hPx hPm hD hS ls (lv_sub hl [0, 1, 2, 3] rfl)
  · refine absurd ?_ c_224
    by_cases hok : ww_okc n fW (xs (i + 1)) (xs (i + 2)) (xs (i + 3))
    · rw [(g202 hok).1, (g221 hok).1]
    · rw [(f202 hok).1, (f221 hok).1]
set_option maxHeartbeats 4000000 in
set_option maxRecDepth 100000 in
/-- cut: both answer the same, and what holds stays -/
theorem law_cut {p : Program} {l : Launch} {e : Env} {s : State} {m : MethodId} {below : List Frame} {meth : Method} {c : Code} {b L : Nat} {xs : Nat → Int32} {D : va_G} {ax am : Nat → Nat} {dx dm : Nat → ClassId} {n : Nat} (hL : L ≤ 321) (C0 : lw_At p s m meth c b L xs) (hKx : va_K D ww_cl (ww_tX dx) s) (hKm : va_K D ww_cl (ww_tM dm) s) {i : Nat} (hi : i + 5 ≤ L) (k567 : ∀ (fW fC fP fX fF fY : Nat → Int32) (ol pl cu : Int32) (fZ : Nat → Int32) (wp wr : Int32), ww_inv n fW fC fP fX fF fY ol → pl = nI (ww_cw fW 40) → cu = nI (ww_cc fX 16) → ∀ (H : Heap) (locs : List Loc), va_P D ww_cl (ww_X ax dx n fW fC fP fX fF fY ol pl cu) H → va_P D ww_cl (ww_M am dm n fW fC fX fZ wp wr) H → va_D (fun q : Nat => s.heap.size ≤ q) (ww_X ax dx n fW fC fP fX fF fY ol pl cu ++ ww_M am dm n fW fC fX fZ wp wr) → va_S (fun q : Nat => s.heap.size ≤ q) s.heap H locs → ∀ (ls : Array Slot), lv_has ls 4 [(0, .ref b), (1, .ref (ax 0)), (2, .ref (am 0)), (3, .int (nI i))] → W p l e room_1 s m #[Value.ref b] below meth c H locs 12 899 (lw_Z below #[Value.ref b] s) (F0 m 567 ls [])) : ∀ (fW fC fP fX fF fY : Nat → Int32) (ol pl cu : Int32) (fZ : Nat → Int32) (wp wr : Int32), ww_inv n fW fC fP fX fF fY ol → pl = nI (ww_cw fW 40) → cu = nI (ww_cc fX 16) → ∀ (H : Heap) (locs : List Loc), va_P D ww_cl (ww_X ax dx n fW fC fP fX fF fY ol pl cu) H → va_P D ww_cl (ww_M am dm n fW fC fX fZ wp wr) H → va_D (fun q : Nat => s.heap.size ≤ q) (ww_X ax dx n fW fC fP fX fF fY ol pl cu ++ ww_M am dm n fW fC fX fZ wp wr) → va_S (fun q : Nat => s.heap.size ≤ q) s.heap H locs → ∀ (ls : Array Slot), lv_has ls 4 [(0, .ref b), (1, .ref (ax 0)), (2, .ref (am 0)), (3, .int (nI i))] → W p l e room_1 s m #[Value.ref b] below meth c H locs 12 899 (lw_Z below #[Value.ref b] s) (F0 m 229 ls []) := by
  obtain ⟨hx, hb, hr, hml, hown, hts0, hX, hbl, hlocks, hgv⟩ := id C0
  have hts : ∀ w ∈ lw_all, w.before #[Value.ref b] s = true := fun w h => hts0 w (lw_all_tbl h)
  have hA : ∀ q : Nat, s.heap.size ≤ q → (fun q : Nat => s.heap.size ≤ q) q := fun _ h => h
  have hbA : ¬ (fun q : Nat => s.heap.size ≤ q) b := Nat.not_le.mpr hbl
  intro fW fC fP fX fF fY ol pl cu fZ wp wr hI epl ecu H locs hPx hPm hD hS ls hl
  subst epl
  subst ecu
  obtain ⟨hn0, hn, hN, hpin, -, -⟩ := id hI
  refine lv_aload_n hx hb dL_law_229 rfl (lv_at hl 1 rfl) ?_
  refine lv_aload_n hx hb dL_law_230 rfl (lv_at hl 0 rfl) ?_
  refine lv_iload_n hx hb dL_law_231 rfl (lv_at hl 3 rfl) ?_
  refine lv_iconst (v := nI 1) hx hb dL_law_232 (by decide) ?_
  refine ww_iadd hx hb dL_law_233 ?_
  refine ww_sld hx hb hX hbl hbA hS dL_law_234 ?_
  refine ww_lawX (As := [.int (xs (i + 1))]) (rest := []) ⟨hx, hb, hml, hown, hts⟩ hKx hPx hPm hD hS hA (metX1_cut l D ax dx n fW fC fP fX fF fY ol (nI (ww_cw fW 40)) (nI (ww_cc fX 16)) _ (xs (i + 1)) ) rfl rfl (cwV 1 hts (lw_V q85 q86 q87 q19 q88) rfl rfl rfl (by decide +kernel) ⟨Nat.le_of_ble_eq_true rfl, Nat.le_of_ble_eq_true rfl⟩) rfl rfl (Nat.le_of_ble_eq_true rfl) hl.1 ⟨by decide, by decide⟩ dL_law_235 (fun r_235 u_235 H locs h_235 hPx hPm hS => ?_)
  obtain ⟨e235, g235, f235⟩ := h_235
  have hPx : va_P D ww_cl (ww_X ax dx n fW fC fP u_235.1 fF fY u_235.2.1 (nI (ww_cw fW 40)) u_235.2.2) H := hPx
  have hPm : va_P D ww_cl (ww_M am dm n fW fC fX fZ wp wr) H := hPm
  have hD : va_D (fun q : Nat => s.heap.size ≤ q) (ww_X ax dx n fW fC fP u_235.1 fF fY u_235.2.1 (nI (ww_cw fW 40)) u_235.2.2 ++ ww_M am dm n fW fC fX fZ wp wr) := ww_Dad hD rfl
  refine lv_aload_n hx hb dL_law_238 rfl (lv_at hl 2 rfl) ?_
  refine lv_aload_n hx hb dL_law_239 rfl (lv_at hl 0 rfl) ?_
  refine lv_iload_n hx hb dL_law_240 rfl (lv_at hl 3 rfl) ?_
  refine lv_iconst (v := nI 1) hx hb dL_law_241 (by decide) ?_
  refine ww_iadd hx hb dL_law_242 ?_
  refine ww_sld hx hb hX hbl hbA hS dL_law_243 ?_
  refine ww_lawM (As := [.int (xs (i + 1))]) (rest := [.int r_235]) ⟨hx, hb, hml, hown, hts⟩ hKm hPm hPx hD hS hA (metX2_cut l D am dm n fW fC fX fZ wp wr _ (xs (i + 1)) ) rfl rfl (cwV 1 hts (lw_V q209 q210 q211 q21 q212) rfl rfl rfl (by decide +kernel) ⟨Nat.le_of_ble_eq_true rfl, Nat.le_of_ble_eq_true rfl⟩) rfl rfl (Nat.le_of_ble_eq_true rfl) hl.1 ⟨by decide, by decide⟩ dL_law_244 (fun r_244 u_244 H locs h_244 hPm hPx hS => ?_)
  obtain ⟨e244, g244, f244⟩ := h_244
  have hPx : va_P D ww_cl (ww_X ax dx n fW fC fP u_235.1 fF fY u_235.2.1 (nI (ww_cw fW 40)) u_235.2.2) H := hPx
  have hPm : va_P D ww_cl (ww_M am dm n fW fC u_244 fZ wp wr) H := hPm
  have hD : va_D (fun q : Nat => s.heap.size ≤ q) (ww_X ax dx n fW fC fP u_235.1 fF fY u_235.2.1 (nI (ww_cw fW 40)) u_235.2.2 ++ ww_M am dm n fW fC u_244 fZ wp wr) := ww_Dad hD rfl
  refine lv_icmp_eq (tgt := 567) hx hb dL_law_247 (by decide) (fun c_247 => ?_) (fun c_247 => ?_)
  · by_cases hok : ww_isW (xs (i + 1)) ∧ fX (xs (i + 1)).toNatClampNeg = 0
    · obtain rfl := g235 ((ww_cut_iff hN).mpr hok)
      obtain rfl := g244 hok
      exact k567 _ _ _ _ _ _ _ _ _ _ _ _ (ww_inv_turn hI (Or.inr rfl)) rfl (ww_cut_cnt hok) H locs hPx hPm hD hS ls (lv_sub hl [0, 1, 2, 3] rfl)
    · obtain rfl := f235 (fun z => hok ((ww_cut_iff hN).mp z))
      rw [f244 hok] at hPm hD
      exact k567 _ _ _ _ _ _ _ _ _ _ _ _ hI rfl rfl H locs hPx hPm hD hS ls (lv_sub hl [0, 1, 2, 3] rfl)
  · exact absurd (by rw [e235, e244]; exact ww_b2_cong (ww_cut_iff hN)) c_247
set_option maxHeartbeats 4000000 in
set_option maxRecDepth 100000 in
/-- mend: both answer the same, and what holds stays -/
theorem law_mend {p : Program} {l : Launch} {e : Env} {s : State} {m : MethodId} {below : List Frame} {meth : Method} {c : Code} {b L : Nat} {xs : Nat → Int32} {D : va_G} {ax am : Nat → Nat} {dx dm : Nat → ClassId} {n : Nat} (hL : L ≤ 321) (C0 : lw_At p s m meth c b L xs) (hKx : va_K D ww_cl (ww_tX dx) s) (hKm : va_K D ww_cl (ww_tM dm) s) {i : Nat} (hi : i + 5 ≤ L) (k567 : ∀ (fW fC fP fX fF fY : Nat → Int32) (ol pl cu : Int32) (fZ : Nat → Int32) (wp wr : Int32), ww_inv n fW fC fP fX fF fY ol → pl = nI (ww_cw fW 40) → cu = nI (ww_cc fX 16) → ∀ (H : Heap) (locs : List Loc), va_P D ww_cl (ww_X ax dx n fW fC fP fX fF fY ol pl cu) H → va_P D ww_cl (ww_M am dm n fW fC fX fZ wp wr) H → va_D (fun q : Nat => s.heap.size ≤ q) (ww_X ax dx n fW fC fP fX fF fY ol pl cu ++ ww_M am dm n fW fC fX fZ wp wr) → va_S (fun q : Nat => s.heap.size ≤ q) s.heap H locs → ∀ (ls : Array Slot), lv_has ls 4 [(0, .ref b), (1, .ref (ax 0)), (2, .ref (am 0)), (3, .int (nI i))] → W p l e room_1 s m #[Value.ref b] below meth c H locs 12 899 (lw_Z below #[Value.ref b] s) (F0 m 567 ls [])) : ∀ (fW fC fP fX fF fY : Nat → Int32) (ol pl cu : Int32) (fZ : Nat → Int32) (wp wr : Int32), ww_inv n fW fC fP fX fF fY ol → pl = nI (ww_cw fW 40) → cu = nI (ww_cc fX 16) → ∀ (H : Heap) (locs : List Loc), va_P D ww_cl (ww_X ax dx n fW fC fP fX fF fY ol pl cu) H → va_P D ww_cl (ww_M am dm n fW fC fX fZ wp wr) H → va_D (fun q : Nat => s.heap.size ≤ q) (ww_X ax dx n fW fC fP fX fF fY ol pl cu ++ ww_M am dm n fW fC fX fZ wp wr) → va_S (fun q : Nat => s.heap.size ≤ q) s.heap H locs → ∀ (ls : Array Slot), lv_has ls 4 [(0, .ref b), (1, .ref (ax 0)), (2, .ref (am 0)), (3, .int (nI i))] → W p l e room_1 s m #[Value.ref b] below meth c H locs 12 899 (lw_Z below #[Value.ref b] s) (F0 m 252 ls []) := by
  obtain ⟨hx, hb, hr, hml, hown, hts0, hX, hbl, hlocks, hgv⟩ := id C0
  have hts : ∀ w ∈ lw_all, w.before #[Value.ref b] s = true := fun w h => hts0 w (lw_all_tbl h)
  have hA : ∀ q : Nat, s.heap.size ≤ q → (fun q : Nat => s.heap.size ≤ q) q := fun _ h => h
  have hbA : ¬ (fun q : Nat => s.heap.size ≤ q) b := Nat.not_le.mpr hbl
  intro fW fC fP fX fF fY ol pl cu fZ wp wr hI epl ecu H locs hPx hPm hD hS ls hl
  subst epl
  subst ecu
  obtain ⟨hn0, hn, hN, hpin, -, -⟩ := id hI
  refine lv_aload_n hx hb dL_law_252 rfl (lv_at hl 1 rfl) ?_
  refine lv_aload_n hx hb dL_law_253 rfl (lv_at hl 0 rfl) ?_
  refine lv_iload_n hx hb dL_law_254 rfl (lv_at hl 3 rfl) ?_
  refine lv_iconst (v := nI 1) hx hb dL_law_255 (by decide) ?_
  refine ww_iadd hx hb dL_law_256 ?_
  refine ww_sld hx hb hX hbl hbA hS dL_law_257 ?_
  refine ww_lawX (As := [.int (xs (i + 1))]) (rest := []) ⟨hx, hb, hml, hown, hts⟩ hKx hPx hPm hD hS hA (metX1_mend l D ax dx n fW fC fP fX fF fY ol (nI (ww_cw fW 40)) (nI (ww_cc fX 16)) _ (xs (i + 1)) ) rfl rfl (cwV 1 hts (lw_V q93 q94 q95 q19 q96) rfl rfl rfl (by decide +kernel) ⟨Nat.le_of_ble_eq_true rfl, Nat.le_of_ble_eq_true rfl⟩) rfl rfl (Nat.le_of_ble_eq_true rfl) hl.1 ⟨by decide, by decide⟩ dL_law_258 (fun r_258 u_258 H locs h_258 hPx hPm hS => ?_)
  obtain ⟨e258, g258, f258⟩ := h_258
  have hPx : va_P D ww_cl (ww_X ax dx n fW fC fP u_258.1 fF fY u_258.2.1 (nI (ww_cw fW 40)) u_258.2.2) H := hPx
  have hPm : va_P D ww_cl (ww_M am dm n fW fC fX fZ wp wr) H := hPm
  have hD : va_D (fun q : Nat => s.heap.size ≤ q) (ww_X ax dx n fW fC fP u_258.1 fF fY u_258.2.1 (nI (ww_cw fW 40)) u_258.2.2 ++ ww_M am dm n fW fC fX fZ wp wr) := ww_Dad hD rfl
  refine lv_aload_n hx hb dL_law_261 rfl (lv_at hl 2 rfl) ?_
  refine lv_aload_n hx hb dL_law_262 rfl (lv_at hl 0 rfl) ?_
  refine lv_iload_n hx hb dL_law_263 rfl (lv_at hl 3 rfl) ?_
  refine lv_iconst (v := nI 1) hx hb dL_law_264 (by decide) ?_
  refine ww_iadd hx hb dL_law_265 ?_
  refine ww_sld hx hb hX hbl hbA hS dL_law_266 ?_
  refine ww_lawM (As := [.int (xs (i + 1))]) (rest := [.int r_258]) ⟨hx, hb, hml, hown, hts⟩ hKm hPm hPx hD hS hA (metX2_mend l D am dm n fW fC fX fZ wp wr _ (xs (i + 1)) ) rfl rfl (cwV 1 hts (lw_V q213 q214 q215 q21 q216) rfl rfl rfl (by decide +kernel) ⟨Nat.le_of_ble_eq_true rfl, Nat.le_of_ble_eq_true rfl⟩) rfl rfl (Nat.le_of_ble_eq_true rfl) hl.1 ⟨by decide, by decide⟩ dL_law_267 (fun r_267 u_267 H locs h_267 hPm hPx hS => ?_)
  obtain ⟨e267, g267, f267⟩ := h_267
  have hPx : va_P D ww_cl (ww_X ax dx n fW fC fP u_258.1 fF fY u_258.2.1 (nI (ww_cw fW 40)) u_258.2.2) H := hPx
  have hPm : va_P D ww_cl (ww_M am dm n fW fC u_267 fZ wp wr) H := hPm
  have hD : va_D (fun q : Nat => s.heap.size ≤ q) (ww_X ax dx n fW fC fP u_258.1 fF fY u_258.2.1 (nI (ww_cw fW 40)) u_258.2.2 ++ ww_M am dm n fW fC u_267 fZ wp wr) := ww_Dad hD rfl
  refine lv_icmp_eq (tgt := 567) hx hb dL_law_270 (by decide) (fun c_270 => ?_) (fun c_270 => ?_)
  · by_cases hok : ww_isW (xs (i + 1)) ∧ ¬ fX (xs (i + 1)).toNatClampNeg = 0
    · obtain rfl := g258 (ww_mend_iff.mpr hok)
      obtain rfl := g267 hok
      exact k567 _ _ _ _ _ _ _ _ _ _ _ _ (ww_inv_turn hI (Or.inl rfl)) rfl (ww_mend_cnt hok) H locs hPx hPm hD hS ls (lv_sub hl [0, 1, 2, 3] rfl)
    · obtain rfl := f258 (fun z => hok (ww_mend_iff.mp z))
      rw [f267 hok] at hPm hD
      exact k567 _ _ _ _ _ _ _ _ _ _ _ _ hI rfl rfl H locs hPx hPm hD hS ls (lv_sub hl [0, 1, 2, 3] rfl)
  · exact absurd (by rw [e258, e267]; exact ww_b2_cong ww_mend_iff) c_270
set_option maxHeartbeats 4000000 in
set_option maxRecDepth 100000 in
/-- far: both answer the same, and what holds stays -/
theorem law_far {p : Program} {l : Launch} {e : Env} {s : State} {m : MethodId} {below : List Frame} {meth : Method} {c : Code} {b L : Nat} {xs : Nat → Int32} {D : va_G} {ax am : Nat → Nat} {dx dm : Nat → ClassId} {n : Nat} (hL : L ≤ 321) (C0 : lw_At p s m meth c b L xs) (hKx : va_K D ww_cl (ww_tX dx) s) (hKm : va_K D ww_cl (ww_tM dm) s) {i : Nat} (hi : i + 5 ≤ L) (k567 : ∀ (fW fC fP fX fF fY : Nat → Int32) (ol pl cu : Int32) (fZ : Nat → Int32) (wp wr : Int32), ww_inv n fW fC fP fX fF fY ol → pl = nI (ww_cw fW 40) → cu = nI (ww_cc fX 16) → ∀ (H : Heap) (locs : List Loc), va_P D ww_cl (ww_X ax dx n fW fC fP fX fF fY ol pl cu) H → va_P D ww_cl (ww_M am dm n fW fC fX fZ wp wr) H → va_D (fun q : Nat => s.heap.size ≤ q) (ww_X ax dx n fW fC fP fX fF fY ol pl cu ++ ww_M am dm n fW fC fX fZ wp wr) → va_S (fun q : Nat => s.heap.size ≤ q) s.heap H locs → ∀ (ls : Array Slot), lv_has ls 4 [(0, .ref b), (1, .ref (ax 0)), (2, .ref (am 0)), (3, .int (nI i))] → W p l e room_1 s m #[Value.ref b] below meth c H locs 12 899 (lw_Z below #[Value.ref b] s) (F0 m 567 ls [])) : ∀ (fW fC fP fX fF fY : Nat → Int32) (ol pl cu : Int32) (fZ : Nat → Int32) (wp wr : Int32), ww_inv n fW fC fP fX fF fY ol → pl = nI (ww_cw fW 40) → cu = nI (ww_cc fX 16) → ∀ (H : Heap) (locs : List Loc), va_P D ww_cl (ww_X ax dx n fW fC fP fX fF fY ol pl cu) H → va_P D ww_cl (ww_M am dm n fW fC fX fZ wp wr) H → va_D (fun q : Nat => s.heap.size ≤ q) (ww_X ax dx n fW fC fP fX fF fY ol pl cu ++ ww_M am dm n fW fC fX fZ wp wr) → va_S (fun q : Nat => s.heap.size ≤ q) s.heap H locs → ∀ (ls : Array Slot), lv_has ls 4 [(0, .ref b), (1, .ref (ax 0)), (2, .ref (am 0)), (3, .int (nI i))] → W p l e room_1 s m #[Value.ref b] below meth c H locs 12 899 (lw_Z below #[Value.ref b] s) (F0 m 275 ls []) := by
  obtain ⟨hx, hb, hr, hml, hown, hts0, hX, hbl, hlocks, hgv⟩ := id C0
  have hts : ∀ w ∈ lw_all, w.before #[Value.ref b] s = true := fun w h => hts0 w (lw_all_tbl h)
  have hA : ∀ q : Nat, s.heap.size ≤ q → (fun q : Nat => s.heap.size ≤ q) q := fun _ h => h
  have hbA : ¬ (fun q : Nat => s.heap.size ≤ q) b := Nat.not_le.mpr hbl
  intro fW fC fP fX fF fY ol pl cu fZ wp wr hI epl ecu H locs hPx hPm hD hS ls hl
  subst epl
  subst ecu
  obtain ⟨hn0, hn, hN, hpin, -, -⟩ := id hI
  refine lv_aload_n hx hb dL_law_275 rfl (lv_at hl 1 rfl) ?_
  refine lv_aload_n hx hb dL_law_276 rfl (lv_at hl 0 rfl) ?_
  refine lv_iload_n hx hb dL_law_277 rfl (lv_at hl 3 rfl) ?_
  refine lv_iconst (v := nI 1) hx hb dL_law_278 (by decide) ?_
  refine ww_iadd hx hb dL_law_279 ?_
  refine ww_sld hx hb hX hbl hbA hS dL_law_280 ?_
  refine lv_aload_n hx hb dL_law_281 rfl (lv_at hl 0 rfl) ?_
  refine lv_iload_n hx hb dL_law_282 rfl (lv_at hl 3 rfl) ?_
  refine lv_iconst (v := nI 2) hx hb dL_law_283 (by decide) ?_
  refine ww_iadd hx hb dL_law_284 ?_
  refine ww_sld hx hb hX hbl hbA hS dL_law_285 ?_
  refine lv_if_eq (tgt := 293) hx hb dL_law_286 (by decide) (fun c_286 => ?_) (fun c_286 => ?_)
  · refine lv_iconst (v := nI 0) hx hb dL_law_293 (by decide) ?_
    refine lv_aload_n hx hb dL_law_294 rfl (lv_at hl 0 rfl) ?_
    refine lv_iload_n hx hb dL_law_295 rfl (lv_at hl 3 rfl) ?_
    refine lv_iconst (v := nI 3) hx hb dL_law_296 (by decide) ?_
    refine ww_iadd hx hb dL_law_297 ?_
    refine ww_sld hx hb hX hbl hbA hS dL_law_298 ?_
    refine ww_lawX (As := [.int (xs (i + 1)), .int (nI 0), .int (xs (i + 3))]) (rest := []) ⟨hx, hb, hml, hown, hts⟩ hKx hPx hPm hD hS hA (metX1_far l D ax dx n fW fC fP fX fF fY ol (nI (ww_cw fW 40)) (nI (ww_cc fX 16)) _ (xs (i + 1)) (nI 0) (xs (i + 3)) hI) rfl rfl (cwV 3 hts (lw_V q97 q98 q99 q19 q100) rfl rfl rfl (by decide +kernel) ⟨Nat.le_of_ble_eq_true rfl, Nat.le_of_ble_eq_true rfl⟩) rfl rfl (Nat.le_of_ble_eq_true rfl) hl.1 ⟨by decide, by decide⟩ dL_law_299 (fun r_299 u_299 H locs h_299 hPx hPm hS => ?_)
    obtain ⟨g299, f299⟩ := h_299
    have hPx : va_P D ww_cl (ww_X ax dx n fW fC fP fX u_299.1 u_299.2.1 u_299.2.2 (nI (ww_cw fW 40)) (nI (ww_cc fX 16))) H := hPx
    have hPm : va_P D ww_cl (ww_M am dm n fW fC fX fZ wp wr) H := hPm
    have hD : va_D (fun q : Nat => s.heap.size ≤ q) (ww_X ax dx n fW fC fP fX u_299.1 u_299.2.1 u_299.2.2 (nI (ww_cw fW 40)) (nI (ww_cc fX 16)) ++ ww_M am dm n fW fC fX fZ wp wr) := ww_Dad hD rfl
    refine lv_aload_n hx hb dL_law_302 rfl (lv_at hl 2 rfl) ?_
    refine lv_aload_n hx hb dL_law_303 rfl (lv_at hl 0 rfl) ?_
    refine lv_iload_n hx hb dL_law_304 rfl (lv_at hl 3 rfl) ?_
    refine lv_iconst (v := nI 1) hx hb dL_law_305 (by decide) ?_
    refine ww_iadd hx hb dL_law_306 ?_
    refine ww_sld hx hb hX hbl hbA hS dL_law_307 ?_
    refine lv_aload_n hx hb dL_law_308 rfl (lv_at hl 0 rfl) ?_
    refine lv_iload_n hx hb dL_law_309 rfl (lv_at hl 3 rfl) ?_
    refine lv_iconst (v := nI 2) hx hb dL_law_310 (by decide) ?_
    refine ww_iadd hx hb dL_law_311 ?_
    refine ww_sld hx hb hX hbl hbA hS dL_law_312 ?_
    refine lv_if_eq (tgt := 320) hx hb dL_law_313 (by decide) (fun c_313 => ?_) (fun c_313 => ?_)
    · refine lv_iconst (v := nI 0) hx hb dL_law_320 (by decide) ?_
      refine lv_aload_n hx hb dL_law_321 rfl (lv_at hl 0 rfl) ?_
      refine lv_iload_n hx hb dL_law_322 rfl (lv_at hl 3 rfl) ?_
      refine lv_iconst (v := nI 3) hx hb dL_law_323 (by decide) ?_
      refine ww_iadd hx hb dL_law_324 ?_
      refine ww_sld hx hb hX hbl hbA hS dL_law_325 ?_
      refine ww_lawM (As := [.int (xs (i + 1)), .int (nI 0), .int (xs (i + 3))]) (rest := [.int r_299]) ⟨hx, hb, hml, hown, hts⟩ hKm hPm hPx hD hS hA (metX2_far l D am dm n fW fC fX fZ wp wr _ (xs (i + 1)) (nI 0) (xs (i + 3)) hn0 hn hN) rfl rfl (cwV 3 hts (lw_V q217 q218 q219 q21 q220) rfl rfl rfl (by decide +kernel) ⟨Nat.le_of_ble_eq_true rfl, Nat.le_of_ble_eq_true rfl⟩) rfl rfl (Nat.le_of_ble_eq_true rfl) hl.1 ⟨by decide, by decide⟩ dL_law_326 (fun r_326 u_326 H locs h_326 hPm hPx hS => ?_)
      obtain ⟨g326, -⟩ := h_326
      have hPx : va_P D ww_cl (ww_X ax dx n fW fC fP fX u_299.1 u_299.2.1 u_299.2.2 (nI (ww_cw fW 40)) (nI (ww_cc fX 16))) H := hPx
      have hPm : va_P D ww_cl (ww_M am dm n fW fC fX u_326.1 u_326.2.1 u_326.2.2) H := hPm
      have hD : va_D (fun q : Nat => s.heap.size ≤ q) (ww_X ax dx n fW fC fP fX u_299.1 u_299.2.1 u_299.2.2 (nI (ww_cw fW 40)) (nI (ww_cc fX 16)) ++ ww_M am dm n fW fC fX u_326.1 u_326.2.1 u_326.2.2) := ww_Dad hD rfl
      refine lv_icmp_eq (tgt := 567) hx hb dL_law_329 (by decide) (fun c_329 => ?_) (fun c_329 => ?_)
      · exact k567 _ _ _ _ _ _ _ _ _ _ _ _ f299 rfl rfl H locs hPx hPm hD hS ls (lv_sub hl [0, 1, 2, 3] rfl)
      · exact absurd (by rw [g299, g326]) c_329
    · exact absurd c_286 c_313
  · refine lv_iconst (v := nI 1) hx hb dL_law_289 (by decide) ?_
    refine lv_goto (tgt := 294) hx hb dL_law_290 (by decide) ?_
    refine lv_aload_n hx hb dL_law_294 rfl (lv_at hl 0 rfl) ?_
    refine lv_iload_n hx hb dL_law_295 rfl (lv_at hl 3 rfl) ?_
    refine lv_iconst (v := nI 3) hx hb dL_law_296 (by decide) ?_
    refine ww_iadd hx hb dL_law_297 ?_
    refine ww_sld hx hb hX hbl hbA hS dL_law_298 ?_
    refine ww_lawX (As := [.int (xs (i + 1)), .int (nI 1), .int (xs (i + 3))]) (rest := []) ⟨hx, hb, hml, hown, hts⟩ hKx hPx hPm hD hS hA (metX1_far l D ax dx n fW fC fP fX fF fY ol (nI (ww_cw fW 40)) (nI (ww_cc fX 16)) _ (xs (i + 1)) (nI 1) (xs (i + 3)) hI) rfl rfl (cwV 3 hts (lw_V q97 q98 q99 q19 q100) rfl rfl rfl (by decide +kernel) ⟨Nat.le_of_ble_eq_true rfl, Nat.le_of_ble_eq_true rfl⟩) rfl rfl (Nat.le_of_ble_eq_true rfl) hl.1 ⟨by decide, by decide⟩ dL_law_299 (fun r_299 u_299 H locs h_299 hPx hPm hS => ?_)
    obtain ⟨g299, f299⟩ := h_299
    have hPx : va_P D ww_cl (ww_X ax dx n fW fC fP fX u_299.1 u_299.2.1 u_299.2.2 (nI (ww_cw fW 40)) (nI (ww_cc fX 16))) H := hPx
    have hPm : va_P D ww_cl (ww_M am dm n fW fC fX fZ wp wr) H := hPm
    have hD : va_D (fun q : Nat => s.heap.size ≤ q) (ww_X ax dx n fW fC fP fX u_299.1 u_299.2.1 u_299.2.2 (nI (ww_cw fW 40)) (nI (ww_cc fX 16)) ++ ww_M am dm n fW fC fX fZ wp wr) := ww_Dad hD rfl
    refine lv_aload_n hx hb dL_law_302 rfl (lv_at hl 2 rfl) ?_
    refine lv_aload_n hx hb dL_law_303 rfl (lv_at hl 0 rfl) ?_
    refine lv_iload_n hx hb dL_law_304 rfl (lv_at hl 3 rfl) ?_
    refine lv_iconst (v := nI 1) hx hb dL_law_305 (by decide) ?_
    refine ww_iadd hx hb dL_law_306 ?_
    refine ww_sld hx hb hX hbl hbA hS dL_law_307 ?_
    refine lv_aload_n hx hb dL_law_308 rfl (lv_at hl 0 rfl) ?_
    refine lv_iload_n hx hb dL_law_309 rfl (lv_at hl 3 rfl) ?_
    refine lv_iconst (v := nI 2) hx hb dL_law_310 (by decide) ?_
    refine ww_iadd hx hb dL_law_311 ?_
    refine ww_sld hx hb hX hbl hbA hS dL_law_312 ?_
    refine lv_if_eq (tgt := 320) hx hb dL_law_313 (by decide) (fun c_313 => ?_) (fun c_313 => ?_)
    · exact absurd c_313 c_286
    · refine lv_iconst (v := nI 1) hx hb dL_law_316 (by decide) ?_
      refine lv_goto (tgt := 321) hx hb dL_law_317 (by decide) ?_
      refine lv_aload_n hx hb dL_law_321 rfl (lv_at hl 0 rfl) ?_
      refine lv_iload_n hx hb dL_law_322 rfl (lv_at hl 3 rfl) ?_
      refine lv_iconst (v := nI 3) hx hb dL_law_323 (by decide) ?_
      refine ww_iadd hx hb dL_law_324 ?_
      refine ww_sld hx hb hX hbl hbA hS dL_law_325 ?_
      refine ww_lawM (As := [.int (xs (i + 1)), .int (nI 1), .int (xs (i + 3))]) (rest := [.int r_299]) ⟨hx, hb, hml, hown, hts⟩ hKm hPm hPx hD hS hA (metX2_far l D am dm n fW fC fX fZ wp wr _ (xs (i + 1)) (nI 1) (xs (i + 3)) hn0 hn hN) rfl rfl (cwV 3 hts (lw_V q217 q218 q219 q21 q220) rfl rfl rfl (by decide +kernel) ⟨Nat.le_of_ble_eq_true rfl, Nat.le_of_ble_eq_true rfl⟩) rfl rfl (Nat.le_of_ble_eq_true rfl) hl.1 ⟨by decide, by decide⟩ dL_law_326 (fun r_326 u_326 H locs h_326 hPm hPx hS => ?_)
      obtain ⟨g326, -⟩ := h_326
      have hPx : va_P D ww_cl (ww_X ax dx n fW fC fP fX u_299.1 u_299.2.1 u_299.2.2 (nI (ww_cw fW 40)) (nI (ww_cc fX 16))) H := hPx
      have hPm : va_P D ww_cl (ww_M am dm n fW fC fX u_326.1 u_326.2.1 u_326.2.2) H := hPm
      have hD : va_D (fun q : Nat => s.heap.size ≤ q) (ww_X ax dx n fW fC fP fX u_299.1 u_299.2.1 u_299.2.2 (nI (ww_cw fW 40)) (nI (ww_cc fX 16)) ++ ww_M am dm n fW fC fX u_326.1 u_326.2.1 u_326.2.2) := ww_Dad hD rfl
      refine lv_icmp_eq (tgt := 567) hx hb dL_law_329 (by decide) (fun c_329 => ?_) (fun c_329 => ?_)
      · exact k567 _ _ _ _ _ _ _ _ _ _ _ _ f299 rfl rfl H locs hPx hPm hD hS ls (lv_sub hl [0, 1, 2, 3] rfl)
      · exact absurd (by rw [g299, g326]) c_329
set_option maxHeartbeats 4000000 in
set_option maxRecDepth 100000 in
/-- port: both answer the same, and what holds stays -/
theorem law_port {p : Program} {l : Launch} {e : Env} {s : State} {m : MethodId} {below : List Frame} {meth : Method} {c : Code} {b L : Nat} {xs : Nat → Int32} {D : va_G} {ax am : Nat → Nat} {dx dm : Nat → ClassId} {n : Nat} (hL : L ≤ 321) (C0 : lw_At p s m meth c b L xs) (hKx : va_K D ww_cl (ww_tX dx) s) (hKm : va_K D ww_cl (ww_tM dm) s) {i : Nat} (hi : i + 5 ≤ L) (k567 : ∀ (fW fC fP fX fF fY : Nat → Int32) (ol pl cu : Int32) (fZ : Nat → Int32) (wp wr : Int32), ww_inv n fW fC fP fX fF fY ol → pl = nI (ww_cw fW 40) → cu = nI (ww_cc fX 16) → ∀ (H : Heap) (locs : List Loc), va_P D ww_cl (ww_X ax dx n fW fC fP fX fF fY ol pl cu) H → va_P D ww_cl (ww_M am dm n fW fC fX fZ wp wr) H → va_D (fun q : Nat => s.heap.size ≤ q) (ww_X ax dx n fW fC fP fX fF fY ol pl cu ++ ww_M am dm n fW fC fX fZ wp wr) → va_S (fun q : Nat => s.heap.size ≤ q) s.heap H locs → ∀ (ls : Array Slot), lv_has ls 4 [(0, .ref b), (1, .ref (ax 0)), (2, .ref (am 0)), (3, .int (nI i))] → W p l e room_1 s m #[Value.ref b] below meth c H locs 12 899 (lw_Z below #[Value.ref b] s) (F0 m 567 ls [])) : ∀ (fW fC fP fX fF fY : Nat → Int32) (ol pl cu : Int32) (fZ : Nat → Int32) (wp wr : Int32), ww_inv n fW fC fP fX fF fY ol → pl = nI (ww_cw fW 40) → cu = nI (ww_cc fX 16) → ∀ (H : Heap) (locs : List Loc), va_P D ww_cl (ww_X ax dx n fW fC fP fX fF fY ol pl cu) H → va_P D ww_cl (ww_M am dm n fW fC fX fZ wp wr) H → va_D (fun q : Nat => s.heap.size ≤ q) (ww_X ax dx n fW fC fP fX fF fY ol pl cu ++ ww_M am dm n fW fC fX fZ wp wr) → va_S (fun q : Nat => s.heap.size ≤ q) s.heap H locs → ∀ (ls : Array Slot), lv_has ls 4 [(0, .ref b), (1, .ref (ax 0)), (2, .ref (am 0)), (3, .int (nI i))] → W p l e room_1 s m #[Value.ref b] below meth c H locs 12 899 (lw_Z below #[Value.ref b] s) (F0 m 334 ls []) := by
  obtain ⟨hx, hb, hr, hml, hown, hts0, hX, hbl, hlocks, hgv⟩ := id C0
  have hts : ∀ w ∈ lw_all, w.before #[Value.ref b] s = true := fun w h => hts0 w (lw_all_tbl h)
  have hA : ∀ q : Nat, s.heap.size ≤ q → (fun q : Nat => s.heap.size ≤ q) q := fun _ h => h
  have hbA : ¬ (fun q : Nat => s.heap.size ≤ q) b := Nat.not_le.mpr hbl
  intro fW fC fP fX fF fY ol pl cu fZ wp wr hI epl ecu H locs hPx hPm hD hS ls hl
  subst epl
  subst ecu
  obtain ⟨hn0, hn, hN, hpin, -, -⟩ := id hI
  refine lv_aload_n hx hb dL_law_334 rfl (lv_at hl 1 rfl) ?_
  refine lv_aload_n hx hb dL_law_335 rfl (lv_at hl 0 rfl) ?_
  refine lv_iload_n hx hb dL_law_336 rfl (lv_at hl 3 rfl) ?_
  refine lv_iconst (v := nI 1) hx hb dL_law_337 (by decide) ?_
  refine ww_iadd hx hb dL_law_338 ?_
  refine ww_sld hx hb hX hbl hbA hS dL_law_339 ?_
  refine lv_aload_n hx hb dL_law_340 rfl (lv_at hl 0 rfl) ?_
  refine lv_iload_n hx hb dL_law_341 rfl (lv_at hl 3 rfl) ?_
  refine lv_iconst (v := nI 2) hx hb dL_law_342 (by decide) ?_
  refine ww_iadd hx hb dL_law_343 ?_
  refine ww_sld hx hb hX hbl hbA hS dL_law_344 ?_
  refine lv_if_eq (tgt := 352) hx hb dL_law_345 (by decide) (fun c_345 => ?_) (fun c_345 => ?_)
  · refine lv_iconst (v := nI 0) hx hb dL_law_352 (by decide) ?_
    refine lv_aload_n hx hb dL_law_353 rfl (lv_at hl 0 rfl) ?_
    refine lv_iload_n hx hb dL_law_354 rfl (lv_at hl 3 rfl) ?_
    refine lv_iconst (v := nI 3) hx hb dL_law_355 (by decide) ?_
    refine ww_iadd hx hb dL_law_356 ?_
    refine ww_sld hx hb hX hbl hbA hS dL_law_357 ?_
    refine ww_lawX (As := [.int (xs (i + 1)), .int (nI 0), .int (xs (i + 3))]) (rest := []) ⟨hx, hb, hml, hown, hts⟩ hKx hPx hPm hD hS hA (metX1_port l D ax dx n fW fC fP fX fF fY ol (nI (ww_cw fW 40)) (nI (ww_cc fX 16)) _ (xs (i + 1)) (nI 0) (xs (i + 3)) hI) rfl rfl (cwV 3 hts (lw_V q125 q126 q127 q19 q128) rfl rfl rfl (by decide +kernel) ⟨Nat.le_of_ble_eq_true rfl, Nat.le_of_ble_eq_true rfl⟩) rfl rfl (Nat.le_of_ble_eq_true rfl) hl.1 ⟨by decide, by decide⟩ dL_law_358 (fun r_358 u_358 H locs h_358 hPx hPm hS => ?_)
    obtain ⟨g358, f358⟩ := h_358
    have hPx : va_P D ww_cl (ww_X ax dx n fW fC fP fX u_358.1 u_358.2.1 u_358.2.2 (nI (ww_cw fW 40)) (nI (ww_cc fX 16))) H := hPx
    have hPm : va_P D ww_cl (ww_M am dm n fW fC fX fZ wp wr) H := hPm
    have hD : va_D (fun q : Nat => s.heap.size ≤ q) (ww_X ax dx n fW fC fP fX u_358.1 u_358.2.1 u_358.2.2 (nI (ww_cw fW 40)) (nI (ww_cc fX 16)) ++ ww_M am dm n fW fC fX fZ wp wr) := ww_Dad hD rfl
    refine lv_aload_n hx hb dL_law_361 rfl (lv_at hl 2 rfl) ?_
    refine lv_aload_n hx hb dL_law_362 rfl (lv_at hl 0 rfl) ?_
    refine lv_iload_n hx hb dL_law_363 rfl (lv_at hl 3 rfl) ?_
    refine lv_iconst (v := nI 1) hx hb dL_law_364 (by decide) ?_
    refine ww_iadd hx hb dL_law_365 ?_
    refine ww_sld hx hb hX hbl hbA hS dL_law_366 ?_
    refine lv_aload_n hx hb dL_law_367 rfl (lv_at hl 0 rfl) ?_
    refine lv_iload_n hx hb dL_law_368 rfl (lv_at hl 3 rfl) ?_
    refine lv_iconst (v := nI 2) hx hb dL_law_369 (by decide) ?_
    refine ww_iadd hx hb dL_law_370 ?_
    refine ww_sld hx hb hX hbl hbA hS dL_law_371 ?_
    refine lv_if_eq (tgt := 379) hx hb dL_law_372 (by decide) (fun c_372 => ?_) (fun c_372 => ?_)
    · refine lv_iconst (v := nI 0) hx hb dL_law_379 (by decide) ?_
      refine lv_aload_n hx hb dL_law_380 rfl (lv_at hl 0 rfl) ?_
      refine lv_iload_n hx hb dL_law_381 rfl (lv_at hl 3 rfl) ?_
      refine lv_iconst (v := nI 3) hx hb dL_law_382 (by decide) ?_
      refine ww_iadd hx hb dL_law_383 ?_
      refine ww_sld hx hb hX hbl hbA hS dL_law_384 ?_
      refine ww_lawM (As := [.int (xs (i + 1)), .int (nI 0), .int (xs (i + 3))]) (rest := [.int r_358]) ⟨hx, hb, hml, hown, hts⟩ hKm hPm hPx hD hS hA (metX2_port l D am dm n fW fC fX fZ wp wr _ (xs (i + 1)) (nI 0) (xs (i + 3)) hn0 hn hN) rfl rfl (cwV 3 hts (lw_V q242 q243 q244 q21 q245) rfl rfl rfl (by decide +kernel) ⟨Nat.le_of_ble_eq_true rfl, Nat.le_of_ble_eq_true rfl⟩) rfl rfl (Nat.le_of_ble_eq_true rfl) hl.1 ⟨by decide, by decide⟩ dL_law_385 (fun r_385 u_385 H locs h_385 hPm hPx hS => ?_)
      have g385 := h_385
      have hPx : va_P D ww_cl (ww_X ax dx n fW fC fP fX u_358.1 u_358.2.1 u_358.2.2 (nI (ww_cw fW 40)) (nI (ww_cc fX 16))) H := hPx
      have hPm : va_P D ww_cl (ww_M am dm n fW fC fX u_385.1 u_385.2.1 u_385.2.2) H := hPm
      have hD : va_D (fun q : Nat => s.heap.size ≤ q) (ww_X ax dx n fW fC fP fX u_358.1 u_358.2.1 u_358.2.2 (nI (ww_cw fW 40)) (nI (ww_cc fX 16)) ++ ww_M am dm n fW fC fX u_385.1 u_385.2.1 u_385.2.2) := ww_Dad hD rfl
      refine lv_icmp_eq (tgt := 567) hx hb dL_law_388 (by decide) (fun c_388 => ?_) (fun c_388 => ?_)
      · exact k567 _ _ _ _ _ _ _ _ _ _ _ _ f358 rfl rfl H locs hPx hPm hD hS ls (lv_sub hl [0, 1, 2, 3] rfl)
      · exact absurd (by rw [g358, g385]) c_388
    · exact absurd c_345 c_372
  · refine lv_iconst (v := nI 1) hx hb dL_law_348 (by decide) ?_
    refine lv_goto (tgt := 353) hx hb dL_law_349 (by decide) ?_
    refine lv_aload_n hx hb dL_law_353 rfl (lv_at hl 0 rfl) ?_
    refine lv_iload_n hx hb dL_law_354 rfl (lv_at hl 3 rfl) ?_
    refine lv_iconst (v := nI 3) hx hb dL_law_355 (by decide) ?_
    refine ww_iadd hx hb dL_law_356 ?_
    refine ww_sld hx hb hX hbl hbA hS dL_law_357 ?_
    refine ww_lawX (As := [.int (xs (i + 1)), .int (nI 1), .int (xs (i + 3))]) (rest := []) ⟨hx, hb, hml, hown, hts⟩ hKx hPx hPm hD hS hA (metX1_port l D ax dx n fW fC fP fX fF fY ol (nI (ww_cw fW 40)) (nI (ww_cc fX 16)) _ (xs (i + 1)) (nI 1) (xs (i + 3)) hI) rfl rfl (cwV 3 hts (lw_V q125 q126 q127 q19 q128) rfl rfl rfl (by decide +kernel) ⟨Nat.le_of_ble_eq_true rfl, Nat.le_of_ble_eq_true rfl⟩) rfl rfl (Nat.le_of_ble_eq_true rfl) hl.1 ⟨by decide, by decide⟩ dL_law_358 (fun r_358 u_358 H locs h_358 hPx hPm hS => ?_)
    obtain ⟨g358, f358⟩ := h_358
    have hPx : va_P D ww_cl (ww_X ax dx n fW fC fP fX u_358.1 u_358.2.1 u_358.2.2 (nI (ww_cw fW 40)) (nI (ww_cc fX 16))) H := hPx
    have hPm : va_P D ww_cl (ww_M am dm n fW fC fX fZ wp wr) H := hPm
    have hD : va_D (fun q : Nat => s.heap.size ≤ q) (ww_X ax dx n fW fC fP fX u_358.1 u_358.2.1 u_358.2.2 (nI (ww_cw fW 40)) (nI (ww_cc fX 16)) ++ ww_M am dm n fW fC fX fZ wp wr) := ww_Dad hD rfl
    refine lv_aload_n hx hb dL_law_361 rfl (lv_at hl 2 rfl) ?_
    refine lv_aload_n hx hb dL_law_362 rfl (lv_at hl 0 rfl) ?_
    refine lv_iload_n hx hb dL_law_363 rfl (lv_at hl 3 rfl) ?_
    refine lv_iconst (v := nI 1) hx hb dL_law_364 (by decide) ?_
    refine ww_iadd hx hb dL_law_365 ?_
    refine ww_sld hx hb hX hbl hbA hS dL_law_366 ?_
    refine lv_aload_n hx hb dL_law_367 rfl (lv_at hl 0 rfl) ?_
    refine lv_iload_n hx hb dL_law_368 rfl (lv_at hl 3 rfl) ?_
    refine lv_iconst (v := nI 2) hx hb dL_law_369 (by decide) ?_
    refine ww_iadd hx hb dL_law_370 ?_
    refine ww_sld hx hb hX hbl hbA hS dL_law_371 ?_
    refine lv_if_eq (tgt := 379) hx hb dL_law_372 (by decide) (fun c_372 => ?_) (fun c_372 => ?_)
    · exact absurd c_372 c_345
    · refine lv_iconst (v := nI 1) hx hb dL_law_375 (by decide) ?_
      refine lv_goto (tgt := 380) hx hb dL_law_376 (by decide) ?_
      refine lv_aload_n hx hb dL_law_380 rfl (lv_at hl 0 rfl) ?_
      refine lv_iload_n hx hb dL_law_381 rfl (lv_at hl 3 rfl) ?_
      refine lv_iconst (v := nI 3) hx hb dL_law_382 (by decide) ?_
      refine ww_iadd hx hb dL_law_383 ?_
      refine ww_sld hx hb hX hbl hbA hS dL_law_384 ?_
      refine ww_lawM (As := [.int (xs (i + 1)), .int (nI 1), .int (xs (i + 3))]) (rest := [.int r_358]) ⟨hx, hb, hml, hown, hts⟩ hKm hPm hPx hD hS hA (metX2_port l D am dm n fW fC fX fZ wp wr _ (xs (i + 1)) (nI 1) (xs (i + 3)) hn0 hn hN) rfl rfl (cwV 3 hts (lw_V q242 q243 q244 q21 q245) rfl rfl rfl (by decide +kernel) ⟨Nat.le_of_ble_eq_true rfl, Nat.le_of_ble_eq_true rfl⟩) rfl rfl (Nat.le_of_ble_eq_true rfl) hl.1 ⟨by decide, by decide⟩ dL_law_385 (fun r_385 u_385 H locs h_385 hPm hPx hS => ?_)
      have g385 := h_385
      have hPx : va_P D ww_cl (ww_X ax dx n fW fC fP fX u_358.1 u_358.2.1 u_358.2.2 (nI (ww_cw fW 40)) (nI (ww_cc fX 16))) H := hPx
      have hPm : va_P D ww_cl (ww_M am dm n fW fC fX u_385.1 u_385.2.1 u_385.2.2) H := hPm
      have hD : va_D (fun q : Nat => s.heap.size ≤ q) (ww_X ax dx n fW fC fP fX u_358.1 u_358.2.1 u_358.2.2 (nI (ww_cw fW 40)) (nI (ww_cc fX 16)) ++ ww_M am dm n fW fC fX u_385.1 u_385.2.1 u_385.2.2) := ww_Dad hD rfl
      refine lv_icmp_eq (tgt := 567) hx hb dL_law_388 (by decide) (fun c_388 => ?_) (fun c_388 => ?_)
      · exact k567 _ _ _ _ _ _ _ _ _ _ _ _ f358 rfl rfl H locs hPx hPm hD hS ls (lv_sub hl [0, 1, 2, 3] rfl)
      · exact absurd (by rw [g358, g385]) c_388
set_option maxHeartbeats 4000000 in
set_option maxRecDepth 100000 in
/-- next: both answer the same, and what holds stays -/
theorem law_next {p : Program} {l : Launch} {e : Env} {s : State} {m : MethodId} {below : List Frame} {meth : Method} {c : Code} {b L : Nat} {xs : Nat → Int32} {D : va_G} {ax am : Nat → Nat} {dx dm : Nat → ClassId} {n : Nat} (hL : L ≤ 321) (C0 : lw_At p s m meth c b L xs) (hKx : va_K D ww_cl (ww_tX dx) s) (hKm : va_K D ww_cl (ww_tM dm) s) {i : Nat} (hi : i + 5 ≤ L) (k567 : ∀ (fW fC fP fX fF fY : Nat → Int32) (ol pl cu : Int32) (fZ : Nat → Int32) (wp wr : Int32), ww_inv n fW fC fP fX fF fY ol → pl = nI (ww_cw fW 40) → cu = nI (ww_cc fX 16) → ∀ (H : Heap) (locs : List Loc), va_P D ww_cl (ww_X ax dx n fW fC fP fX fF fY ol pl cu) H → va_P D ww_cl (ww_M am dm n fW fC fX fZ wp wr) H → va_D (fun q : Nat => s.heap.size ≤ q) (ww_X ax dx n fW fC fP fX fF fY ol pl cu ++ ww_M am dm n fW fC fX fZ wp wr) → va_S (fun q : Nat => s.heap.size ≤ q) s.heap H locs → ∀ (ls : Array Slot), lv_has ls 4 [(0, .ref b), (1, .ref (ax 0)), (2, .ref (am 0)), (3, .int (nI i))] → W p l e room_1 s m #[Value.ref b] below meth c H locs 12 899 (lw_Z below #[Value.ref b] s) (F0 m 567 ls [])) : ∀ (fW fC fP fX fF fY : Nat → Int32) (ol pl cu : Int32) (fZ : Nat → Int32) (wp wr : Int32), ww_inv n fW fC fP fX fF fY ol → pl = nI (ww_cw fW 40) → cu = nI (ww_cc fX 16) → ∀ (H : Heap) (locs : List Loc), va_P D ww_cl (ww_X ax dx n fW fC fP fX fF fY ol pl cu) H → va_P D ww_cl (ww_M am dm n fW fC fX fZ wp wr) H → va_D (fun q : Nat => s.heap.size ≤ q) (ww_X ax dx n fW fC fP fX fF fY ol pl cu ++ ww_M am dm n fW fC fX fZ wp wr) → va_S (fun q : Nat => s.heap.size ≤ q) s.heap H locs → ∀ (ls : Array Slot), lv_has ls 4 [(0, .ref b), (1, .ref (ax 0)), (2, .ref (am 0)), (3, .int (nI i))] → W p l e room_1 s m #[Value.ref b] below meth c H locs 12 899 (lw_Z below #[Value.ref b] s) (F0 m 393 ls []) := by
  obtain ⟨hx, hb, hr, hml, hown, hts0, hX, hbl, hlocks, hgv⟩ := id C0
  have hts : ∀ w ∈ lw_all, w.before #[Value.ref b] s = true := fun w h => hts0 w (lw_all_tbl h)
  have hA : ∀ q : Nat, s.heap.size ≤ q → (fun q : Nat => s.heap.size ≤ q) q := fun _ h => h
  have hbA : ¬ (fun q : Nat => s.heap.size ≤ q) b := Nat.not_le.mpr hbl
  intro fW fC fP fX fF fY ol pl cu fZ wp wr hI epl ecu H locs hPx hPm hD hS ls hl
  subst epl
  subst ecu
  obtain ⟨hn0, hn, hN, hpin, -, -⟩ := id hI
  refine lv_aload_n hx hb dL_law_393 rfl (lv_at hl 1 rfl) ?_
  refine lv_aload_n hx hb dL_law_394 rfl (lv_at hl 0 rfl) ?_
  refine lv_iload_n hx hb dL_law_395 rfl (lv_at hl 3 rfl) ?_
  refine lv_iconst (v := nI 1) hx hb dL_law_396 (by decide) ?_
  refine ww_iadd hx hb dL_law_397 ?_
  refine ww_sld hx hb hX hbl hbA hS dL_law_398 ?_
  refine lv_aload_n hx hb dL_law_399 rfl (lv_at hl 0 rfl) ?_
  refine lv_iload_n hx hb dL_law_400 rfl (lv_at hl 3 rfl) ?_
  refine lv_iconst (v := nI 2) hx hb dL_law_401 (by decide) ?_
  refine ww_iadd hx hb dL_law_402 ?_
  refine ww_sld hx hb hX hbl hbA hS dL_law_403 ?_
  refine lv_if_eq (tgt := 411) hx hb dL_law_404 (by decide) (fun c_404 => ?_) (fun c_404 => ?_)
  · refine lv_iconst (v := nI 0) hx hb dL_law_411 (by decide) ?_
    refine lv_aload_n hx hb dL_law_412 rfl (lv_at hl 0 rfl) ?_
    refine lv_iload_n hx hb dL_law_413 rfl (lv_at hl 3 rfl) ?_
    refine lv_iconst (v := nI 3) hx hb dL_law_414 (by decide) ?_
    refine ww_iadd hx hb dL_law_415 ?_
    refine ww_sld hx hb hX hbl hbA hS dL_law_416 ?_
    refine ww_lawX (As := [.int (xs (i + 1)), .int (nI 0), .int (xs (i + 3))]) (rest := []) ⟨hx, hb, hml, hown, hts⟩ hKx hPx hPm hD hS hA (metX1_next l D ax dx n fW fC fP fX fF fY ol (nI (ww_cw fW 40)) (nI (ww_cc fX 16)) _ (xs (i + 1)) (nI 0) (xs (i + 3)) hI) rfl rfl (cwV 3 hts (lw_V q129 q130 q131 q19 q132) rfl rfl rfl (by decide +kernel) ⟨Nat.le_of_ble_eq_true rfl, Nat.le_of_ble_eq_true rfl⟩) rfl rfl (Nat.le_of_ble_eq_true rfl) hl.1 ⟨by decide, by decide⟩ dL_law_417 (fun r_417 u_417 H locs h_417 hPx hPm hS => ?_)
    obtain ⟨g417, f417⟩ := h_417
    have hPx : va_P D ww_cl (ww_X ax dx n fW fC fP fX u_417.1 u_417.2.1 u_417.2.2 (nI (ww_cw fW 40)) (nI (ww_cc fX 16))) H := hPx
    have hPm : va_P D ww_cl (ww_M am dm n fW fC fX fZ wp wr) H := hPm
    have hD : va_D (fun q : Nat => s.heap.size ≤ q) (ww_X ax dx n fW fC fP fX u_417.1 u_417.2.1 u_417.2.2 (nI (ww_cw fW 40)) (nI (ww_cc fX 16)) ++ ww_M am dm n fW fC fX fZ wp wr) := ww_Dad hD rfl
    refine lv_aload_n hx hb dL_law_420 rfl (lv_at hl 2 rfl) ?_
    refine lv_aload_n hx hb dL_law_421 rfl (lv_at hl 0 rfl) ?_
    refine lv_iload_n hx hb dL_law_422 rfl (lv_at hl 3 rfl) ?_
    refine lv_iconst (v := nI 1) hx hb dL_law_423 (by decide) ?_
    refine ww_iadd hx hb dL_law_424 ?_
    refine ww_sld hx hb hX hbl hbA hS dL_law_425 ?_
    refine lv_aload_n hx hb dL_law_426 rfl (lv_at hl 0 rfl) ?_
    refine lv_iload_n hx hb dL_law_427 rfl (lv_at hl 3 rfl) ?_
    refine lv_iconst (v := nI 2) hx hb dL_law_428 (by decide) ?_
    refine ww_iadd hx hb dL_law_429 ?_
    refine ww_sld hx hb hX hbl hbA hS dL_law_430 ?_
    refine lv_if_eq (tgt := 438) hx hb dL_law_431 (by decide) (fun c_431 => ?_) (fun c_431 => ?_)
    · refine lv_iconst (v := nI 0) hx hb dL_law_438 (by decide) ?_
      refine lv_aload_n hx hb dL_law_439 rfl (lv_at hl 0 rfl) ?_
      refine lv_iload_n hx hb dL_law_440 rfl (lv_at hl 3 rfl) ?_
      refine lv_iconst (v := nI 3) hx hb dL_law_441 (by decide) ?_
      refine ww_iadd hx hb dL_law_442 ?_
      refine ww_sld hx hb hX hbl hbA hS dL_law_443 ?_
      refine ww_lawM (As := [.int (xs (i + 1)), .int (nI 0), .int (xs (i + 3))]) (rest := [.int r_417]) ⟨hx, hb, hml, hown, hts⟩ hKm hPm hPx hD hS hA (metX2_next l D am dm n fW fC fX fZ wp wr _ (xs (i + 1)) (nI 0) (xs (i + 3)) hn0 hn hN) rfl rfl (cwV 3 hts (lw_V q246 q247 q248 q21 q249) rfl rfl rfl (by decide +kernel) ⟨Nat.le_of_ble_eq_true rfl, Nat.le_of_ble_eq_true rfl⟩) rfl rfl (Nat.le_of_ble_eq_true rfl) hl.1 ⟨by decide, by decide⟩ dL_law_444 (fun r_444 u_444 H locs h_444 hPm hPx hS => ?_)
      have g444 := h_444
      have hPx : va_P D ww_cl (ww_X ax dx n fW fC fP fX u_417.1 u_417.2.1 u_417.2.2 (nI (ww_cw fW 40)) (nI (ww_cc fX 16))) H := hPx
      have hPm : va_P D ww_cl (ww_M am dm n fW fC fX u_444.1 u_444.2.1 u_444.2.2) H := hPm
      have hD : va_D (fun q : Nat => s.heap.size ≤ q) (ww_X ax dx n fW fC fP fX u_417.1 u_417.2.1 u_417.2.2 (nI (ww_cw fW 40)) (nI (ww_cc fX 16)) ++ ww_M am dm n fW fC fX u_444.1 u_444.2.1 u_444.2.2) := ww_Dad hD rfl
      refine lv_icmp_eq (tgt := 567) hx hb dL_law_447 (by decide) (fun c_447 => ?_) (fun c_447 => ?_)
      · exact k567 _ _ _ _ _ _ _ _ _ _ _ _ f417 rfl rfl H locs hPx hPm hD hS ls (lv_sub hl [0, 1, 2, 3] rfl)
      · exact absurd (by rw [g417, g444]) c_447
    · exact absurd c_404 c_431
  · refine lv_iconst (v := nI 1) hx hb dL_law_407 (by decide) ?_
    refine lv_goto (tgt := 412) hx hb dL_law_408 (by decide) ?_
    refine lv_aload_n hx hb dL_law_412 rfl (lv_at hl 0 rfl) ?_
    refine lv_iload_n hx hb dL_law_413 rfl (lv_at hl 3 rfl) ?_
    refine lv_iconst (v := nI 3) hx hb dL_law_414 (by decide) ?_
    refine ww_iadd hx hb dL_law_415 ?_
    refine ww_sld hx hb hX hbl hbA hS dL_law_416 ?_
    refine ww_lawX (As := [.int (xs (i + 1)), .int (nI 1), .int (xs (i + 3))]) (rest := []) ⟨hx, hb, hml, hown, hts⟩ hKx hPx hPm hD hS hA (metX1_next l D ax dx n fW fC fP fX fF fY ol (nI (ww_cw fW 40)) (nI (ww_cc fX 16)) _ (xs (i + 1)) (nI 1) (xs (i + 3)) hI) rfl rfl (cwV 3 hts (lw_V q129 q130 q131 q19 q132) rfl rfl rfl (by decide +kernel) ⟨Nat.le_of_ble_eq_true rfl, Nat.le_of_ble_eq_true rfl⟩) rfl rfl (Nat.le_of_ble_eq_true rfl) hl.1 ⟨by decide, by decide⟩ dL_law_417 (fun r_417 u_417 H locs h_417 hPx hPm hS => ?_)
    obtain ⟨g417, f417⟩ := h_417
    have hPx : va_P D ww_cl (ww_X ax dx n fW fC fP fX u_417.1 u_417.2.1 u_417.2.2 (nI (ww_cw fW 40)) (nI (ww_cc fX 16))) H := hPx
    have hPm : va_P D ww_cl (ww_M am dm n fW fC fX fZ wp wr) H := hPm
    have hD : va_D (fun q : Nat => s.heap.size ≤ q) (ww_X ax dx n fW fC fP fX u_417.1 u_417.2.1 u_417.2.2 (nI (ww_cw fW 40)) (nI (ww_cc fX 16)) ++ ww_M am dm n fW fC fX fZ wp wr) := ww_Dad hD rfl
    refine lv_aload_n hx hb dL_law_420 rfl (lv_at hl 2 rfl) ?_
    refine lv_aload_n hx hb dL_law_421 rfl (lv_at hl 0 rfl) ?_
    refine lv_iload_n hx hb dL_law_422 rfl (lv_at hl 3 rfl) ?_
    refine lv_iconst (v := nI 1) hx hb dL_law_423 (by decide) ?_
    refine ww_iadd hx hb dL_law_424 ?_
    refine ww_sld hx hb hX hbl hbA hS dL_law_425 ?_
    refine lv_aload_n hx hb dL_law_426 rfl (lv_at hl 0 rfl) ?_
    refine lv_iload_n hx hb dL_law_427 rfl (lv_at hl 3 rfl) ?_
    refine lv_iconst (v := nI 2) hx hb dL_law_428 (by decide) ?_
    refine ww_iadd hx hb dL_law_429 ?_
    refine ww_sld hx hb hX hbl hbA hS dL_law_430 ?_
    refine lv_if_eq (tgt := 438) hx hb dL_law_431 (by decide) (fun c_431 => ?_) (fun c_431 => ?_)
    · exact absurd c_431 c_404
    · refine lv_iconst (v := nI 1) hx hb dL_law_434 (by decide) ?_
      refine lv_goto (tgt := 439) hx hb dL_law_435 (by decide) ?_
      refine lv_aload_n hx hb dL_law_439 rfl (lv_at hl 0 rfl) ?_
      refine lv_iload_n hx hb dL_law_440 rfl (lv_at hl 3 rfl) ?_
      refine lv_iconst (v := nI 3) hx hb dL_law_441 (by decide) ?_
      refine ww_iadd hx hb dL_law_442 ?_
      refine ww_sld hx hb hX hbl hbA hS dL_law_443 ?_
      refine ww_lawM (As := [.int (xs (i + 1)), .int (nI 1), .int (xs (i + 3))]) (rest := [.int r_417]) ⟨hx, hb, hml, hown, hts⟩ hKm hPm hPx hD hS hA (metX2_next l D am dm n fW fC fX fZ wp wr _ (xs (i + 1)) (nI 1) (xs (i + 3)) hn0 hn hN) rfl rfl (cwV 3 hts (lw_V q246 q247 q248 q21 q249) rfl rfl rfl (by decide +kernel) ⟨Nat.le_of_ble_eq_true rfl, Nat.le_of_ble_eq_true rfl⟩) rfl rfl (Nat.le_of_ble_eq_true rfl) hl.1 ⟨by decide, by decide⟩ dL_law_444 (fun r_444 u_444 H locs h_444 hPm hPx hS => ?_)
      have g444 := h_444
      have hPx : va_P D ww_cl (ww_X ax dx n fW fC fP fX u_417.1 u_417.2.1 u_417.2.2 (nI (ww_cw fW 40)) (nI (ww_cc fX 16))) H := hPx
      have hPm : va_P D ww_cl (ww_M am dm n fW fC fX u_444.1 u_444.2.1 u_444.2.2) H := hPm
      have hD : va_D (fun q : Nat => s.heap.size ≤ q) (ww_X ax dx n fW fC fP fX u_417.1 u_417.2.1 u_417.2.2 (nI (ww_cw fW 40)) (nI (ww_cc fX 16)) ++ ww_M am dm n fW fC fX u_444.1 u_444.2.1 u_444.2.2) := ww_Dad hD rfl
      refine lv_icmp_eq (tgt := 567) hx hb dL_law_447 (by decide) (fun c_447 => ?_) (fun c_447 => ?_)
      · exact k567 _ _ _ _ _ _ _ _ _ _ _ _ f417 rfl rfl H locs hPx hPm hD hS ls (lv_sub hl [0, 1, 2, 3] rfl)
      · exact absurd (by rw [g417, g444]) c_447
set_option maxHeartbeats 4000000 in
set_option maxRecDepth 100000 in
/-- walk: both answer the same, and what holds stays -/
theorem law_walk {p : Program} {l : Launch} {e : Env} {s : State} {m : MethodId} {below : List Frame} {meth : Method} {c : Code} {b L : Nat} {xs : Nat → Int32} {D : va_G} {ax am : Nat → Nat} {dx dm : Nat → ClassId} {n : Nat} (hL : L ≤ 321) (C0 : lw_At p s m meth c b L xs) (hKx : va_K D ww_cl (ww_tX dx) s) (hKm : va_K D ww_cl (ww_tM dm) s) {i : Nat} (hi : i + 5 ≤ L) (k567 : ∀ (fW fC fP fX fF fY : Nat → Int32) (ol pl cu : Int32) (fZ : Nat → Int32) (wp wr : Int32), ww_inv n fW fC fP fX fF fY ol → pl = nI (ww_cw fW 40) → cu = nI (ww_cc fX 16) → ∀ (H : Heap) (locs : List Loc), va_P D ww_cl (ww_X ax dx n fW fC fP fX fF fY ol pl cu) H → va_P D ww_cl (ww_M am dm n fW fC fX fZ wp wr) H → va_D (fun q : Nat => s.heap.size ≤ q) (ww_X ax dx n fW fC fP fX fF fY ol pl cu ++ ww_M am dm n fW fC fX fZ wp wr) → va_S (fun q : Nat => s.heap.size ≤ q) s.heap H locs → ∀ (ls : Array Slot), lv_has ls 4 [(0, .ref b), (1, .ref (ax 0)), (2, .ref (am 0)), (3, .int (nI i))] → W p l e room_1 s m #[Value.ref b] below meth c H locs 12 899 (lw_Z below #[Value.ref b] s) (F0 m 567 ls [])) : ∀ (fW fC fP fX fF fY : Nat → Int32) (ol pl cu : Int32) (fZ : Nat → Int32) (wp wr : Int32), ww_inv n fW fC fP fX fF fY ol → pl = nI (ww_cw fW 40) → cu = nI (ww_cc fX 16) → ∀ (H : Heap) (locs : List Loc), va_P D ww_cl (ww_X ax dx n fW fC fP fX fF fY ol pl cu) H → va_P D ww_cl (ww_M am dm n fW fC fX fZ wp wr) H → va_D (fun q : Nat => s.heap.size ≤ q) (ww_X ax dx n fW fC fP fX fF fY ol pl cu ++ ww_M am dm n fW fC fX fZ wp wr) → va_S (fun q : Nat => s.heap.size ≤ q) s.heap H locs → ∀ (ls : Array Slot), lv_has ls 4 [(0, .ref b), (1, .ref (ax 0)), (2, .ref (am 0)), (3, .int (nI i))] → W p l e room_1 s m #[Value.ref b] below meth c H locs 12 899 (lw_Z below #[Value.ref b] s) (F0 m 452 ls []) := by
  obtain ⟨hx, hb, hr, hml, hown, hts0, hX, hbl, hlocks, hgv⟩ := id C0
  have hts : ∀ w ∈ lw_all, w.before #[Value.ref b] s = true := fun w h => hts0 w (lw_all_tbl h)
  have hA : ∀ q : Nat, s.heap.size ≤ q → (fun q : Nat => s.heap.size ≤ q) q := fun _ h => h
  have hbA : ¬ (fun q : Nat => s.heap.size ≤ q) b := Nat.not_le.mpr hbl
  intro fW fC fP fX fF fY ol pl cu fZ wp wr hI epl ecu H locs hPx hPm hD hS ls hl
  subst epl
  subst ecu
  obtain ⟨hn0, hn, hN, hpin, -, -⟩ := id hI
  refine lv_aload_n hx hb dL_law_452 rfl (lv_at hl 1 rfl) ?_
  refine lv_aload_n hx hb dL_law_453 rfl (lv_at hl 0 rfl) ?_
  refine lv_iload_n hx hb dL_law_454 rfl (lv_at hl 3 rfl) ?_
  refine lv_iconst (v := nI 1) hx hb dL_law_455 (by decide) ?_
  refine ww_iadd hx hb dL_law_456 ?_
  refine ww_sld hx hb hX hbl hbA hS dL_law_457 ?_
  refine lv_aload_n hx hb dL_law_458 rfl (lv_at hl 0 rfl) ?_
  refine lv_iload_n hx hb dL_law_459 rfl (lv_at hl 3 rfl) ?_
  refine lv_iconst (v := nI 2) hx hb dL_law_460 (by decide) ?_
  refine ww_iadd hx hb dL_law_461 ?_
  refine ww_sld hx hb hX hbl hbA hS dL_law_462 ?_
  refine lv_if_eq (tgt := 470) hx hb dL_law_463 (by decide) (fun c_463 => ?_) (fun c_463 => ?_)
  · refine lv_iconst (v := nI 0) hx hb dL_law_470 (by decide) ?_
    refine lv_aload_n hx hb dL_law_471 rfl (lv_at hl 0 rfl) ?_
    refine lv_iload_n hx hb dL_law_472 rfl (lv_at hl 3 rfl) ?_
    refine lv_iconst (v := nI 3) hx hb dL_law_473 (by decide) ?_
    refine ww_iadd hx hb dL_law_474 ?_
    refine ww_sld hx hb hX hbl hbA hS dL_law_475 ?_
    refine lv_aload_n hx hb dL_law_476 rfl (lv_at hl 0 rfl) ?_
    refine lv_iload_n hx hb dL_law_477 rfl (lv_at hl 3 rfl) ?_
    refine lv_iconst (v := nI 4) hx hb dL_law_478 (by decide) ?_
    refine ww_iadd hx hb dL_law_479 ?_
    refine ww_sld hx hb hX hbl hbA hS dL_law_480 ?_
    refine ww_lawX (As := [.int (xs (i + 1)), .int (nI 0), .int (xs (i + 3)), .int (xs (i + 4))]) (rest := []) ⟨hx, hb, hml, hown, hts⟩ hKx hPx hPm hD hS hA (metX1_walk l D ax dx n fW fC fP fX fF fY ol (nI (ww_cw fW 40)) (nI (ww_cc fX 16)) _ (xs (i + 1)) (nI 0) (xs (i + 3)) (xs (i + 4)) hI) rfl rfl (cwV 4 hts (lw_V q133 q134 q135 q19 q136) rfl rfl rfl (by decide +kernel) ⟨Nat.le_of_ble_eq_true rfl, Nat.le_of_ble_eq_true rfl⟩) rfl rfl (Nat.le_of_ble_eq_true rfl) hl.1 ⟨by decide, by decide⟩ dL_law_481 (fun r_481 u_481 H locs h_481 hPx hPm hS => ?_)
    obtain ⟨g481, f481⟩ := h_481
    have hPx : va_P D ww_cl (ww_X ax dx n fW fC fP fX u_481.1 u_481.2.1 u_481.2.2 (nI (ww_cw fW 40)) (nI (ww_cc fX 16))) H := hPx
    have hPm : va_P D ww_cl (ww_M am dm n fW fC fX fZ wp wr) H := hPm
    have hD : va_D (fun q : Nat => s.heap.size ≤ q) (ww_X ax dx n fW fC fP fX u_481.1 u_481.2.1 u_481.2.2 (nI (ww_cw fW 40)) (nI (ww_cc fX 16)) ++ ww_M am dm n fW fC fX fZ wp wr) := ww_Dad hD rfl
    refine lv_aload_n hx hb dL_law_484 rfl (lv_at hl 2 rfl) ?_
    refine lv_aload_n hx hb dL_law_485 rfl (lv_at hl 0 rfl) ?_
    refine lv_iload_n hx hb dL_law_486 rfl (lv_at hl 3 rfl) ?_
    refine lv_iconst (v := nI 1) hx hb dL_law_487 (by decide) ?_
    refine ww_iadd hx hb dL_law_488 ?_
    refine ww_sld hx hb hX hbl hbA hS dL_law_489 ?_
    refine lv_aload_n hx hb dL_law_490 rfl (lv_at hl 0 rfl) ?_
    refine lv_iload_n hx hb dL_law_491 rfl (lv_at hl 3 rfl) ?_
    refine lv_iconst (v := nI 2) hx hb dL_law_492 (by decide) ?_
    refine ww_iadd hx hb dL_law_493 ?_
    refine ww_sld hx hb hX hbl hbA hS dL_law_494 ?_
    refine lv_if_eq (tgt := 502) hx hb dL_law_495 (by decide) (fun c_495 => ?_) (fun c_495 => ?_)
    · refine lv_iconst (v := nI 0) hx hb dL_law_502 (by decide) ?_
      refine lv_aload_n hx hb dL_law_503 rfl (lv_at hl 0 rfl) ?_
      refine lv_iload_n hx hb dL_law_504 rfl (lv_at hl 3 rfl) ?_
      refine lv_iconst (v := nI 3) hx hb dL_law_505 (by decide) ?_
      refine ww_iadd hx hb dL_law_506 ?_
      refine ww_sld hx hb hX hbl hbA hS dL_law_507 ?_
      refine lv_aload_n hx hb dL_law_508 rfl (lv_at hl 0 rfl) ?_
      refine lv_iload_n hx hb dL_law_509 rfl (lv_at hl 3 rfl) ?_
      refine lv_iconst (v := nI 4) hx hb dL_law_510 (by decide) ?_
      refine ww_iadd hx hb dL_law_511 ?_
      refine ww_sld hx hb hX hbl hbA hS dL_law_512 ?_
      refine ww_lawM (As := [.int (xs (i + 1)), .int (nI 0), .int (xs (i + 3)), .int (xs (i + 4))]) (rest := [.int r_481]) ⟨hx, hb, hml, hown, hts⟩ hKm hPm hPx hD hS hA (metX2_walk l D am dm n fW fC fX fZ wp wr _ (xs (i + 1)) (nI 0) (xs (i + 3)) (xs (i + 4)) hn0 hn hN) rfl rfl (cwV 4 hts (lw_V q250 q251 q252 q21 q253) rfl rfl rfl (by decide +kernel) ⟨Nat.le_of_ble_eq_true rfl, Nat.le_of_ble_eq_true rfl⟩) rfl rfl (Nat.le_of_ble_eq_true rfl) hl.1 ⟨by decide, by decide⟩ dL_law_513 (fun r_513 u_513 H locs h_513 hPm hPx hS => ?_)
      have g513 := h_513
      have hPx : va_P D ww_cl (ww_X ax dx n fW fC fP fX u_481.1 u_481.2.1 u_481.2.2 (nI (ww_cw fW 40)) (nI (ww_cc fX 16))) H := hPx
      have hPm : va_P D ww_cl (ww_M am dm n fW fC fX u_513.1 u_513.2.1 u_513.2.2) H := hPm
      have hD : va_D (fun q : Nat => s.heap.size ≤ q) (ww_X ax dx n fW fC fP fX u_481.1 u_481.2.1 u_481.2.2 (nI (ww_cw fW 40)) (nI (ww_cc fX 16)) ++ ww_M am dm n fW fC fX u_513.1 u_513.2.1 u_513.2.2) := ww_Dad hD rfl
      refine lv_icmp_eq (tgt := 567) hx hb dL_law_516 (by decide) (fun c_516 => ?_) (fun c_516 => ?_)
      · exact k567 _ _ _ _ _ _ _ _ _ _ _ _ f481 rfl rfl H locs hPx hPm hD hS ls (lv_sub hl [0, 1, 2, 3] rfl)
      · exact absurd (by rw [g481, g513]) c_516
    · exact absurd c_463 c_495
  · refine lv_iconst (v := nI 1) hx hb dL_law_466 (by decide) ?_
    refine lv_goto (tgt := 471) hx hb dL_law_467 (by decide) ?_
    refine lv_aload_n hx hb dL_law_471 rfl (lv_at hl 0 rfl) ?_
    refine lv_iload_n hx hb dL_law_472 rfl (lv_at hl 3 rfl) ?_
    refine lv_iconst (v := nI 3) hx hb dL_law_473 (by decide) ?_
    refine ww_iadd hx hb dL_law_474 ?_
    refine ww_sld hx hb hX hbl hbA hS dL_law_475 ?_
    refine lv_aload_n hx hb dL_law_476 rfl (lv_at hl 0 rfl) ?_
    refine lv_iload_n hx hb dL_law_477 rfl (lv_at hl 3 rfl) ?_
    refine lv_iconst (v := nI 4) hx hb dL_law_478 (by decide) ?_
    refine ww_iadd hx hb dL_law_479 ?_
    refine ww_sld hx hb hX hbl hbA hS dL_law_480 ?_
    refine ww_lawX (As := [.int (xs (i + 1)), .int (nI 1), .int (xs (i + 3)), .int (xs (i + 4))]) (rest := []) ⟨hx, hb, hml, hown, hts⟩ hKx hPx hPm hD hS hA (metX1_walk l D ax dx n fW fC fP fX fF fY ol (nI (ww_cw fW 40)) (nI (ww_cc fX 16)) _ (xs (i + 1)) (nI 1) (xs (i + 3)) (xs (i + 4)) hI) rfl rfl (cwV 4 hts (lw_V q133 q134 q135 q19 q136) rfl rfl rfl (by decide +kernel) ⟨Nat.le_of_ble_eq_true rfl, Nat.le_of_ble_eq_true rfl⟩) rfl rfl (Nat.le_of_ble_eq_true rfl) hl.1 ⟨by decide, by decide⟩ dL_law_481 (fun r_481 u_481 H locs h_481 hPx hPm hS => ?_)
    obtain ⟨g481, f481⟩ := h_481
    have hPx : va_P D ww_cl (ww_X ax dx n fW fC fP fX u_481.1 u_481.2.1 u_481.2.2 (nI (ww_cw fW 40)) (nI (ww_cc fX 16))) H := hPx
    have hPm : va_P D ww_cl (ww_M am dm n fW fC fX fZ wp wr) H := hPm
    have hD : va_D (fun q : Nat => s.heap.size ≤ q) (ww_X ax dx n fW fC fP fX u_481.1 u_481.2.1 u_481.2.2 (nI (ww_cw fW 40)) (nI (ww_cc fX 16)) ++ ww_M am dm n fW fC fX fZ wp wr) := ww_Dad hD rfl
    refine lv_aload_n hx hb dL_law_484 rfl (lv_at hl 2 rfl) ?_
    refine lv_aload_n hx hb dL_law_485 rfl (lv_at hl 0 rfl) ?_
    refine lv_iload_n hx hb dL_law_486 rfl (lv_at hl 3 rfl) ?_
    refine lv_iconst (v := nI 1) hx hb dL_law_487 (by decide) ?_
    refine ww_iadd hx hb dL_law_488 ?_
    refine ww_sld hx hb hX hbl hbA hS dL_law_489 ?_
    refine lv_aload_n hx hb dL_law_490 rfl (lv_at hl 0 rfl) ?_
    refine lv_iload_n hx hb dL_law_491 rfl (lv_at hl 3 rfl) ?_
    refine lv_iconst (v := nI 2) hx hb dL_law_492 (by decide) ?_
    refine ww_iadd hx hb dL_law_493 ?_
    refine ww_sld hx hb hX hbl hbA hS dL_law_494 ?_
    refine lv_if_eq (tgt := 502) hx hb dL_law_495 (by decide) (fun c_495 => ?_) (fun c_495 => ?_)
    · exact absurd c_495 c_463
    · refine lv_iconst (v := nI 1) hx hb dL_law_498 (by decide) ?_
      refine lv_goto (tgt := 503) hx hb dL_law_499 (by decide) ?_
      refine lv_aload_n hx hb dL_law_503 rfl (lv_at hl 0 rfl) ?_
      refine lv_iload_n hx hb dL_law_504 rfl (lv_at hl 3 rfl) ?_
      refine lv_iconst (v := nI 3) hx hb dL_law_505 (by decide) ?_
      refine ww_iadd hx hb dL_law_506 ?_
      refine ww_sld hx hb hX hbl hbA hS dL_law_507 ?_
      refine lv_aload_n hx hb dL_law_508 rfl (lv_at hl 0 rfl) ?_
      refine lv_iload_n hx hb dL_law_509 rfl (lv_at hl 3 rfl) ?_
      refine lv_iconst (v := nI 4) hx hb dL_law_510 (by decide) ?_
      refine ww_iadd hx hb dL_law_511 ?_
      refine ww_sld hx hb hX hbl hbA hS dL_law_512 ?_
      refine ww_lawM (As := [.int (xs (i + 1)), .int (nI 1), .int (xs (i + 3)), .int (xs (i + 4))]) (rest := [.int r_481]) ⟨hx, hb, hml, hown, hts⟩ hKm hPm hPx hD hS hA (metX2_walk l D am dm n fW fC fX fZ wp wr _ (xs (i + 1)) (nI 1) (xs (i + 3)) (xs (i + 4)) hn0 hn hN) rfl rfl (cwV 4 hts (lw_V q250 q251 q252 q21 q253) rfl rfl rfl (by decide +kernel) ⟨Nat.le_of_ble_eq_true rfl, Nat.le_of_ble_eq_true rfl⟩) rfl rfl (Nat.le_of_ble_eq_true rfl) hl.1 ⟨by decide, by decide⟩ dL_law_513 (fun r_513 u_513 H locs h_513 hPm hPx hS => ?_)
      have g513 := h_513
      have hPx : va_P D ww_cl (ww_X ax dx n fW fC fP fX u_481.1 u_481.2.1 u_481.2.2 (nI (ww_cw fW 40)) (nI (ww_cc fX 16))) H := hPx
      have hPm : va_P D ww_cl (ww_M am dm n fW fC fX u_513.1 u_513.2.1 u_513.2.2) H := hPm
      have hD : va_D (fun q : Nat => s.heap.size ≤ q) (ww_X ax dx n fW fC fP fX u_481.1 u_481.2.1 u_481.2.2 (nI (ww_cw fW 40)) (nI (ww_cc fX 16)) ++ ww_M am dm n fW fC fX u_513.1 u_513.2.1 u_513.2.2) := ww_Dad hD rfl
      refine lv_icmp_eq (tgt := 567) hx hb dL_law_516 (by decide) (fun c_516 => ?_) (fun c_516 => ?_)
      · exact k567 _ _ _ _ _ _ _ _ _ _ _ _ f481 rfl rfl H locs hPx hPm hD hS ls (lv_sub hl [0, 1, 2, 3] rfl)
      · exact absurd (by rw [g481, g513]) c_516
set_option maxHeartbeats 4000000 in
set_option maxRecDepth 100000 in
/-- reach: both answer the same, and what holds stays -/
theorem law_reach {p : Program} {l : Launch} {e : Env} {s : State} {m : MethodId} {below : List Frame} {meth : Method} {c : Code} {b L : Nat} {xs : Nat → Int32} {D : va_G} {ax am : Nat → Nat} {dx dm : Nat → ClassId} {n : Nat} (hL : L ≤ 321) (C0 : lw_At p s m meth c b L xs) (hKx : va_K D ww_cl (ww_tX dx) s) (hKm : va_K D ww_cl (ww_tM dm) s) {i : Nat} (hi : i + 5 ≤ L) (k567 : ∀ (fW fC fP fX fF fY : Nat → Int32) (ol pl cu : Int32) (fZ : Nat → Int32) (wp wr : Int32), ww_inv n fW fC fP fX fF fY ol → pl = nI (ww_cw fW 40) → cu = nI (ww_cc fX 16) → ∀ (H : Heap) (locs : List Loc), va_P D ww_cl (ww_X ax dx n fW fC fP fX fF fY ol pl cu) H → va_P D ww_cl (ww_M am dm n fW fC fX fZ wp wr) H → va_D (fun q : Nat => s.heap.size ≤ q) (ww_X ax dx n fW fC fP fX fF fY ol pl cu ++ ww_M am dm n fW fC fX fZ wp wr) → va_S (fun q : Nat => s.heap.size ≤ q) s.heap H locs → ∀ (ls : Array Slot), lv_has ls 4 [(0, .ref b), (1, .ref (ax 0)), (2, .ref (am 0)), (3, .int (nI i))] → W p l e room_1 s m #[Value.ref b] below meth c H locs 12 899 (lw_Z below #[Value.ref b] s) (F0 m 567 ls [])) : ∀ (fW fC fP fX fF fY : Nat → Int32) (ol pl cu : Int32) (fZ : Nat → Int32) (wp wr : Int32), ww_inv n fW fC fP fX fF fY ol → pl = nI (ww_cw fW 40) → cu = nI (ww_cc fX 16) → ∀ (H : Heap) (locs : List Loc), va_P D ww_cl (ww_X ax dx n fW fC fP fX fF fY ol pl cu) H → va_P D ww_cl (ww_M am dm n fW fC fX fZ wp wr) H → va_D (fun q : Nat => s.heap.size ≤ q) (ww_X ax dx n fW fC fP fX fF fY ol pl cu ++ ww_M am dm n fW fC fX fZ wp wr) → va_S (fun q : Nat => s.heap.size ≤ q) s.heap H locs → ∀ (ls : Array Slot), lv_has ls 4 [(0, .ref b), (1, .ref (ax 0)), (2, .ref (am 0)), (3, .int (nI i))] → W p l e room_1 s m #[Value.ref b] below meth c H locs 12 899 (lw_Z below #[Value.ref b] s) (F0 m 521 ls []) := by
  obtain ⟨hx, hb, hr, hml, hown, hts0, hX, hbl, hlocks, hgv⟩ := id C0
  have hts : ∀ w ∈ lw_all, w.before #[Value.ref b] s = true := fun w h => hts0 w (lw_all_tbl h)
  have hA : ∀ q : Nat, s.heap.size ≤ q → (fun q : Nat => s.heap.size ≤ q) q := fun _ h => h
  have hbA : ¬ (fun q : Nat => s.heap.size ≤ q) b := Nat.not_le.mpr hbl
  intro fW fC fP fX fF fY ol pl cu fZ wp wr hI epl ecu H locs hPx hPm hD hS ls hl
  subst epl
  subst ecu
  obtain ⟨hn0, hn, hN, hpin, -, -⟩ := id hI
  refine lv_aload_n hx hb dL_law_521 rfl (lv_at hl 1 rfl) ?_
  refine lv_aload_n hx hb dL_law_522 rfl (lv_at hl 0 rfl) ?_
  refine lv_iload_n hx hb dL_law_523 rfl (lv_at hl 3 rfl) ?_
  refine lv_iconst (v := nI 1) hx hb dL_law_524 (by decide) ?_
  refine ww_iadd hx hb dL_law_525 ?_
  refine ww_sld hx hb hX hbl hbA hS dL_law_526 ?_
  refine ww_lawX (As := [.int (xs (i + 1))]) (rest := []) ⟨hx, hb, hml, hown, hts⟩ hKx hPx hPm hD hS hA (metX1_reach l D ax dx n fW fC fP fX fF fY ol (nI (ww_cw fW 40)) (nI (ww_cc fX 16)) _ (xs (i + 1)) hI) rfl rfl (cwV 1 hts (lw_V q139 q140 q141 q19 q142) rfl rfl rfl (by decide +kernel) ⟨Nat.le_of_ble_eq_true rfl, Nat.le_of_ble_eq_true rfl⟩) rfl rfl (Nat.le_of_ble_eq_true rfl) hl.1 ⟨by decide, by decide⟩ dL_law_527 (fun r_527 u_527 H locs h_527 hPx hPm hS => ?_)
  obtain ⟨g527, f527⟩ := h_527
  have hPx : va_P D ww_cl (ww_X ax dx n fW fC fP fX u_527.1 u_527.2.1 u_527.2.2 (nI (ww_cw fW 40)) (nI (ww_cc fX 16))) H := hPx
  have hPm : va_P D ww_cl (ww_M am dm n fW fC fX fZ wp wr) H := hPm
  have hD : va_D (fun q : Nat => s.heap.size ≤ q) (ww_X ax dx n fW fC fP fX u_527.1 u_527.2.1 u_527.2.2 (nI (ww_cw fW 40)) (nI (ww_cc fX 16)) ++ ww_M am dm n fW fC fX fZ wp wr) := ww_Dad hD rfl
  refine lv_aload_n hx hb dL_law_530 rfl (lv_at hl 2 rfl) ?_
  refine lv_aload_n hx hb dL_law_531 rfl (lv_at hl 0 rfl) ?_
  refine lv_iload_n hx hb dL_law_532 rfl (lv_at hl 3 rfl) ?_
  refine lv_iconst (v := nI 1) hx hb dL_law_533 (by decide) ?_
  refine ww_iadd hx hb dL_law_534 ?_
  refine ww_sld hx hb hX hbl hbA hS dL_law_535 ?_
  refine ww_lawM (As := [.int (xs (i + 1))]) (rest := [.int r_527]) ⟨hx, hb, hml, hown, hts⟩ hKm hPm hPx hD hS hA (metX2_reach l D am dm n fW fC fX fZ wp wr _ (xs (i + 1)) hn0 hn hN) rfl rfl (cwV 1 hts (lw_V q255 q256 q257 q21 q258) rfl rfl rfl (by decide +kernel) ⟨Nat.le_of_ble_eq_true rfl, Nat.le_of_ble_eq_true rfl⟩) rfl rfl (Nat.le_of_ble_eq_true rfl) hl.1 ⟨by decide, by decide⟩ dL_law_536 (fun r_536 u_536 H locs h_536 hPm hPx hS => ?_)
  have g536 := h_536
  have hPx : va_P D ww_cl (ww_X ax dx n fW fC fP fX u_527.1 u_527.2.1 u_527.2.2 (nI (ww_cw fW 40)) (nI (ww_cc fX 16))) H := hPx
  have hPm : va_P D ww_cl (ww_M am dm n fW fC fX u_536.1 u_536.2.1 u_536.2.2) H := hPm
  have hD : va_D (fun q : Nat => s.heap.size ≤ q) (ww_X ax dx n fW fC fP fX u_527.1 u_527.2.1 u_527.2.2 (nI (ww_cw fW 40)) (nI (ww_cc fX 16)) ++ ww_M am dm n fW fC fX u_536.1 u_536.2.1 u_536.2.2) := ww_Dad hD rfl
  refine lv_icmp_eq (tgt := 567) hx hb dL_law_539 (by decide) (fun c_539 => ?_) (fun c_539 => ?_)
  · exact k567 _ _ _ _ _ _ _ _ _ _ _ _ f527 rfl rfl H locs hPx hPm hD hS ls (lv_sub hl [0, 1, 2, 3] rfl)
  · exact absurd (by rw [g527, g536]) c_539
set_option maxHeartbeats 4000000 in
set_option maxRecDepth 100000 in
/-- count: both answer the same, and what holds stays -/
theorem law_count {p : Program} {l : Launch} {e : Env} {s : State} {m : MethodId} {below : List Frame} {meth : Method} {c : Code} {b L : Nat} {xs : Nat → Int32} {D : va_G} {ax am : Nat → Nat} {dx dm : Nat → ClassId} {n : Nat} (hL : L ≤ 321) (C0 : lw_At p s m meth c b L xs) (hKx : va_K D ww_cl (ww_tX dx) s) (hKm : va_K D ww_cl (ww_tM dm) s) {i : Nat} (hi : i + 5 ≤ L) (k567 : ∀ (fW fC fP fX fF fY : Nat → Int32) (ol pl cu : Int32) (fZ : Nat → Int32) (wp wr : Int32), ww_inv n fW fC fP fX fF fY ol → pl = nI (ww_cw fW 40) → cu = nI (ww_cc fX 16) → ∀ (H : Heap) (locs : List Loc), va_P D ww_cl (ww_X ax dx n fW fC fP fX fF fY ol pl cu) H → va_P D ww_cl (ww_M am dm n fW fC fX fZ wp wr) H → va_D (fun q : Nat => s.heap.size ≤ q) (ww_X ax dx n fW fC fP fX fF fY ol pl cu ++ ww_M am dm n fW fC fX fZ wp wr) → va_S (fun q : Nat => s.heap.size ≤ q) s.heap H locs → ∀ (ls : Array Slot), lv_has ls 4 [(0, .ref b), (1, .ref (ax 0)), (2, .ref (am 0)), (3, .int (nI i))] → W p l e room_1 s m #[Value.ref b] below meth c H locs 12 899 (lw_Z below #[Value.ref b] s) (F0 m 567 ls [])) : ∀ (fW fC fP fX fF fY : Nat → Int32) (ol pl cu : Int32) (fZ : Nat → Int32) (wp wr : Int32), ww_inv n fW fC fP fX fF fY ol → pl = nI (ww_cw fW 40) → cu = nI (ww_cc fX 16) → ∀ (H : Heap) (locs : List Loc), va_P D ww_cl (ww_X ax dx n fW fC fP fX fF fY ol pl cu) H → va_P D ww_cl (ww_M am dm n fW fC fX fZ wp wr) H → va_D (fun q : Nat => s.heap.size ≤ q) (ww_X ax dx n fW fC fP fX fF fY ol pl cu ++ ww_M am dm n fW fC fX fZ wp wr) → va_S (fun q : Nat => s.heap.size ≤ q) s.heap H locs → ∀ (ls : Array Slot), lv_has ls 4 [(0, .ref b), (1, .ref (ax 0)), (2, .ref (am 0)), (3, .int (nI i))] → W p l e room_1 s m #[Value.ref b] below meth c H locs 12 899 (lw_Z below #[Value.ref b] s) (F0 m 544 ls []) := by
  obtain ⟨hx, hb, hr, hml, hown, hts0, hX, hbl, hlocks, hgv⟩ := id C0
  have hts : ∀ w ∈ lw_all, w.before #[Value.ref b] s = true := fun w h => hts0 w (lw_all_tbl h)
  have hA : ∀ q : Nat, s.heap.size ≤ q → (fun q : Nat => s.heap.size ≤ q) q := fun _ h => h
  have hbA : ¬ (fun q : Nat => s.heap.size ≤ q) b := Nat.not_le.mpr hbl
  intro fW fC fP fX fF fY ol pl cu fZ wp wr hI epl ecu H locs hPx hPm hD hS ls hl
  subst epl
  subst ecu
  obtain ⟨hn0, hn, hN, hpin, -, -⟩ := id hI
  refine lv_aload_n hx hb dL_law_544 rfl (lv_at hl 1 rfl) ?_
  refine lv_aload_n hx hb dL_law_545 rfl (lv_at hl 0 rfl) ?_
  refine lv_iload_n hx hb dL_law_546 rfl (lv_at hl 3 rfl) ?_
  refine lv_iconst (v := nI 1) hx hb dL_law_547 (by decide) ?_
  refine ww_iadd hx hb dL_law_548 ?_
  refine ww_sld hx hb hX hbl hbA hS dL_law_549 ?_
  refine ww_lawX (As := [.int (xs (i + 1))]) (rest := []) ⟨hx, hb, hml, hown, hts⟩ hKx hPx hPm hD hS hA (metX1_count l D ax dx n fW fC fP fX fF fY ol (nI (ww_cw fW 40)) (nI (ww_cc fX 16)) _ (xs (i + 1)) hI) rfl rfl (cwV 1 hts (lw_V q143 q144 q145 q19 q146) rfl rfl rfl (by decide +kernel) ⟨Nat.le_of_ble_eq_true rfl, Nat.le_of_ble_eq_true rfl⟩) rfl rfl (Nat.le_of_ble_eq_true rfl) hl.1 ⟨by decide, by decide⟩ dL_law_550 (fun r_550 u_550 H locs h_550 hPx hPm hS => ?_)
  obtain ⟨g550, f550⟩ := h_550
  have hPx : va_P D ww_cl (ww_X ax dx n fW fC fP fX u_550.1 u_550.2.1 u_550.2.2 (nI (ww_cw fW 40)) (nI (ww_cc fX 16))) H := hPx
  have hPm : va_P D ww_cl (ww_M am dm n fW fC fX fZ wp wr) H := hPm
  have hD : va_D (fun q : Nat => s.heap.size ≤ q) (ww_X ax dx n fW fC fP fX u_550.1 u_550.2.1 u_550.2.2 (nI (ww_cw fW 40)) (nI (ww_cc fX 16)) ++ ww_M am dm n fW fC fX fZ wp wr) := ww_Dad hD rfl
  refine lv_aload_n hx hb dL_law_553 rfl (lv_at hl 2 rfl) ?_
  refine lv_aload_n hx hb dL_law_554 rfl (lv_at hl 0 rfl) ?_
  refine lv_iload_n hx hb dL_law_555 rfl (lv_at hl 3 rfl) ?_
  refine lv_iconst (v := nI 1) hx hb dL_law_556 (by decide) ?_
  refine ww_iadd hx hb dL_law_557 ?_
  refine ww_sld hx hb hX hbl hbA hS dL_law_558 ?_
  refine ww_lawM (As := [.int (xs (i + 1))]) (rest := [.int r_550]) ⟨hx, hb, hml, hown, hts⟩ hKm hPm hPx hD hS hA (metX2_count l D am dm n fW fC fX fZ wp wr _ (xs (i + 1)) hn0 hn hN) rfl rfl (cwV 1 hts (lw_V q259 q260 q261 q21 q262) rfl rfl rfl (by decide +kernel) ⟨Nat.le_of_ble_eq_true rfl, Nat.le_of_ble_eq_true rfl⟩) rfl rfl (Nat.le_of_ble_eq_true rfl) hl.1 ⟨by decide, by decide⟩ dL_law_559 (fun r_559 u_559 H locs h_559 hPm hPx hS => ?_)
  have g559 := h_559
  have hPx : va_P D ww_cl (ww_X ax dx n fW fC fP fX u_550.1 u_550.2.1 u_550.2.2 (nI (ww_cw fW 40)) (nI (ww_cc fX 16))) H := hPx
  have hPm : va_P D ww_cl (ww_M am dm n fW fC fX u_559 wp wr) H := hPm
  have hD : va_D (fun q : Nat => s.heap.size ≤ q) (ww_X ax dx n fW fC fP fX u_550.1 u_550.2.1 u_550.2.2 (nI (ww_cw fW 40)) (nI (ww_cc fX 16)) ++ ww_M am dm n fW fC fX u_559 wp wr) := ww_Dad hD rfl
  refine lv_icmp_eq (tgt := 567) hx hb dL_law_562 (by decide) (fun c_562 => ?_) (fun c_562 => ?_)
  · exact k567 _ _ _ _ _ _ _ _ _ _ _ _ f550 rfl rfl H locs hPx hPm hD hS ls (lv_sub hl [0, 1, 2, 3] rfl)
  · exact absurd (ww_cnt_one g550 g559) c_562
end
section
/-! the law: its loop, its entry -/
set_option maxHeartbeats 4000000 in
set_option maxRecDepth 100000 in
/-- the loop at its head -/
theorem law_loop {p : Program} {l : Launch} {e : Env} {s : State} {m : MethodId} {below : List Frame} {meth : Method} {c : Code} {b L : Nat} {xs : Nat → Int32} {D : va_G} {ax am : Nat → Nat} {dx dm : Nat → ClassId} {n : Nat} (hL : L ≤ 321) (C0 : lw_At p s m meth c b L xs) (hKx : va_K D ww_cl (ww_tX dx) s) (hKm : va_K D ww_cl (ww_tM dm) s) : ∀ (j i : Nat), i ≤ L + 1 → L + 2 ≤ i + j → ∀ (fW fC fP fX fF fY : Nat → Int32) (ol pl cu : Int32) (fZ : Nat → Int32) (wp wr : Int32), ww_inv n fW fC fP fX fF fY ol → pl = nI (ww_cw fW 40) → cu = nI (ww_cc fX 16) → ∀ (H : Heap) (locs : List Loc), va_P D ww_cl (ww_X ax dx n fW fC fP fX fF fY ol pl cu) H → va_P D ww_cl (ww_M am dm n fW fC fX fZ wp wr) H → va_D (fun q : Nat => s.heap.size ≤ q) (ww_X ax dx n fW fC fP fX fF fY ol pl cu ++ ww_M am dm n fW fC fX fZ wp wr) → va_S (fun q : Nat => s.heap.size ≤ q) s.heap H locs → ∀ (ls : Array Slot), lv_has ls 4 [(0, .ref b), (1, .ref (ax 0)), (2, .ref (am 0)), (3, .int (nI i))] → W p l e room_1 s m #[Value.ref b] below meth c H locs 12 899 (lw_Z below #[Value.ref b] s) (F0 m 28 ls []) := by
  obtain ⟨hx, hb, hr, hml, hown, hts0, hX, hbl, hlocks, hgv⟩ := id C0
  have hts : ∀ w ∈ lw_all, w.before #[Value.ref b] s = true := fun w h => hts0 w (lw_all_tbl h)
  have hA : ∀ q : Nat, s.heap.size ≤ q → (fun q : Nat => s.heap.size ≤ q) q := fun _ h => h
  have hbA : ¬ (fun q : Nat => s.heap.size ≤ q) b := Nat.not_le.mpr hbl
  intro j
  induction j with
  | zero => intro i h1 h2; exact absurd h2 (by omega)
  | succ j ih =>
    intro i h1 h2 fW fC fP fX fF fY ol pl cu fZ wp wr hI epl ecu H locs hPx hPm hD hS ls hl
    refine lv_iload_n hx hb dL_law_28 rfl (lv_at hl 3 rfl) ?_
    refine lv_aload_n hx hb dL_law_29 rfl (lv_at hl 0 rfl) ?_
    refine va_slen hx hb hX hbl hbA hS dL_law_30 ?_
    refine ww_top (y := nI L) rfl ?_
    refine lv_iconst (v := nI 5) hx hb dL_law_31 (by decide) ?_
    refine lv_isub hx hb dL_law_32 ?_
    refine lv_icmp_gt (tgt := 573) hx hb dL_law_33 (by decide) (fun c_33 => ?_) (fun c_33 => ?_)
    · refine lv_iconst (v := 1) hx hb dL_law_573 (by decide) ?_
      refine va_forget (fun q h => hS.2.2 q h) ?_
      refine W.widen (k := 600000) (n := 7290000) (by decide) (by decide) ?_
      exact lw_ret hx hb hr hlocks dL_law_574
    · have hi5 := ww_room hL h1 c_33
      have k567 : ∀ (fW fC fP fX fF fY : Nat → Int32) (ol pl cu : Int32) (fZ : Nat → Int32) (wp wr : Int32), ww_inv n fW fC fP fX fF fY ol → pl = nI (ww_cw fW 40) → cu = nI (ww_cc fX 16) → ∀ (H : Heap) (locs : List Loc), va_P D ww_cl (ww_X ax dx n fW fC fP fX fF fY ol pl cu) H → va_P D ww_cl (ww_M am dm n fW fC fX fZ wp wr) H → va_D (fun q : Nat => s.heap.size ≤ q) (ww_X ax dx n fW fC fP fX fF fY ol pl cu ++ ww_M am dm n fW fC fX fZ wp wr) → va_S (fun q : Nat => s.heap.size ≤ q) s.heap H locs → ∀ (ls : Array Slot), lv_has ls 4 [(0, .ref b), (1, .ref (ax 0)), (2, .ref (am 0)), (3, .int (nI i))] → W p l e room_1 s m #[Value.ref b] below meth c H locs 12 899 (lw_Z below #[Value.ref b] s) (F0 m 567 ls []) := by
        intro fW fC fP fX fF fY ol pl cu fZ wp wr hI epl ecu H locs hPx hPm hD hS ls hl
        refine lv_iinc (v := nI (i + 5)) (lv' := [(3, .int (nI (i + 5))), (0, .ref b), (1, .ref (ax 0)), (2, .ref (am 0))]) hx hb dL_law_567 hl (k := 3) rfl (nI_add _ 5) (by decide) rfl (fun ls hl => ?_)
        refine lv_goto (tgt := 28) hx hb dL_law_570 (by decide) ?_
        exact ih (i + 5) (by omega) (by omega) fW fC fP fX fF fY ol pl cu fZ wp wr hI epl ecu H locs hPx hPm hD hS ls (lv_sub hl [1, 2, 3, 0] rfl)
      refine lv_aload_n hx hb dL_law_36 rfl (lv_at hl 0 rfl) ?_
      refine lv_iload_n hx hb dL_law_37 rfl (lv_at hl 3 rfl) ?_
      refine ww_sld hx hb hX hbl hbA hS dL_law_38 ?_
      refine lv_bipush (v := nI 15) hx hb dL_law_39 (by decide) ?_
      refine lv_iand hx hb dL_law_41 ?_
      obtain ⟨z, hz, ez⟩ := pk_andE (xs i) (m := nI 15) 4 (by decide)
      refine ww_top (y := nI z) ez ?_
      rcases (show z = 0 ∨ z = 1 ∨ z = 2 ∨ z = 3 ∨ z = 4 ∨ z = 5 ∨ z = 6 ∨ z = 7 ∨ z = 8 ∨ z = 9 ∨ z = 10 ∨ 11 ≤ z by omega) with rfl | rfl | rfl | rfl | rfl | rfl | rfl | rfl | rfl | rfl | rfl | hz2
      · refine lv_tableIn (tgt := 100) (off := 58) hx hb dL_law_42 (by decide) (by decide) (by decide) (by decide) ?_
        exact law_plug hL C0 hKx hKm hi5 k567 fW fC fP fX fF fY ol pl cu fZ wp wr hI epl ecu H locs hPx hPm hD hS ls (lv_sub hl [0, 1, 2, 3] rfl)
      · refine lv_tableIn (tgt := 153) (off := 111) hx hb dL_law_42 (by decide) (by decide) (by decide) (by decide) ?_
        exact law_draw hL C0 hKx hKm hi5 k567 fW fC fP fX fF fY ol pl cu fZ wp wr hI epl ecu H locs hPx hPm hD hS ls (lv_sub hl [0, 1, 2, 3] rfl)
      · refine lv_tableIn (tgt := 186) (off := 144) hx hb dL_law_42 (by decide) (by decide) (by decide) (by decide) ?_
        exact law_cost hL C0 hKx hKm hi5 k567 fW fC fP fX fF fY ol pl cu fZ wp wr hI epl ecu H locs hPx hPm hD hS ls (lv_sub hl [0, 1, 2, 3] rfl)
      · refine lv_tableIn (tgt := 229) (off := 187) hx hb dL_law_42 (by decide) (by decide) (by decide) (by decide) ?_
        exact law_cut hL C0 hKx hKm hi5 k567 fW fC fP fX fF fY ol pl cu fZ wp wr hI epl ecu H locs hPx hPm hD hS ls (lv_sub hl [0, 1, 2, 3] rfl)
      · refine lv_tableIn (tgt := 252) (off := 210) hx hb dL_law_42 (by decide) (by decide) (by decide) (by decide) ?_
        exact law_mend hL C0 hKx hKm hi5 k567 fW fC fP fX fF fY ol pl cu fZ wp wr hI epl ecu H locs hPx hPm hD hS ls (lv_sub hl [0, 1, 2, 3] rfl)
      · refine lv_tableIn (tgt := 275) (off := 233) hx hb dL_law_42 (by decide) (by decide) (by decide) (by decide) ?_
        exact law_far hL C0 hKx hKm hi5 k567 fW fC fP fX fF fY ol pl cu fZ wp wr hI epl ecu H locs hPx hPm hD hS ls (lv_sub hl [0, 1, 2, 3] rfl)
      · refine lv_tableIn (tgt := 334) (off := 292) hx hb dL_law_42 (by decide) (by decide) (by decide) (by decide) ?_
        exact law_port hL C0 hKx hKm hi5 k567 fW fC fP fX fF fY ol pl cu fZ wp wr hI epl ecu H locs hPx hPm hD hS ls (lv_sub hl [0, 1, 2, 3] rfl)
      · refine lv_tableIn (tgt := 393) (off := 351) hx hb dL_law_42 (by decide) (by decide) (by decide) (by decide) ?_
        exact law_next hL C0 hKx hKm hi5 k567 fW fC fP fX fF fY ol pl cu fZ wp wr hI epl ecu H locs hPx hPm hD hS ls (lv_sub hl [0, 1, 2, 3] rfl)
      · refine lv_tableIn (tgt := 452) (off := 410) hx hb dL_law_42 (by decide) (by decide) (by decide) (by decide) ?_
        exact law_walk hL C0 hKx hKm hi5 k567 fW fC fP fX fF fY ol pl cu fZ wp wr hI epl ecu H locs hPx hPm hD hS ls (lv_sub hl [0, 1, 2, 3] rfl)
      · refine lv_tableIn (tgt := 521) (off := 479) hx hb dL_law_42 (by decide) (by decide) (by decide) (by decide) ?_
        exact law_reach hL C0 hKx hKm hi5 k567 fW fC fP fX fF fY ol pl cu fZ wp wr hI epl ecu H locs hPx hPm hD hS ls (lv_sub hl [0, 1, 2, 3] rfl)
      · refine lv_tableIn (tgt := 544) (off := 502) hx hb dL_law_42 (by decide) (by decide) (by decide) (by decide) ?_
        exact law_count hL C0 hKx hKm hi5 k567 fW fC fP fX fF fY ol pl cu fZ wp wr hI epl ecu H locs hPx hPm hD hS ls (lv_sub hl [0, 1, 2, 3] rfl)
      · refine lv_tableOut (tgt := 567) hx hb dL_law_42 (Or.inr (by rw [nI_toInt (by omega)]; omega)) (by decide) ?_
        exact k567 fW fC fP fX fF fY ol pl cu fZ wp wr hI epl ecu H locs hPx hPm hD hS ls (lv_sub hl [0, 1, 2, 3] rfl)
set_option maxHeartbeats 4000000 in
set_option maxRecDepth 100000 in
/-- from the entry, for every script of at most 321 ints, the law comes to its end with true -/
theorem whole_start {p : Program} {e : Env} {s : State} {m : MethodId} {below : List Frame} {meth : Method} {c : Code} (l : Launch) {b L : Nat} {xs : Nat → Int32} (hL : L ≤ 321) (C0 : lw_At p s m meth c b L xs) : W p l e room_1 s m #[Value.ref b] below meth c s.heap [] 0 0 (lw_Z below #[Value.ref b] s) (entryFrame m ([Value.ref b] : List Value).toArray 4) := by
  obtain ⟨hx, hb, hr, hml, hown, hts0, hX, hbl, hlocks, hgv⟩ := id C0
  have hts : ∀ w ∈ lw_all, w.before #[Value.ref b] s = true := fun w h => hts0 w (lw_all_tbl h)
  have hA : ∀ q : Nat, s.heap.size ≤ q → (fun q : Nat => s.heap.size ≤ q) q := fun _ h => h
  have hbA : ¬ (fun q : Nat => s.heap.size ≤ q) b := Nat.not_le.mpr hbl
  obtain ⟨c0, iS0, hKn0⟩ := u_known (C := RX1) (T := TX1) (N := 10) (n := 10) hts0 (fun w h => lw_all_tbl (in_X1 w h)) (hts0 _ (lw_all_tbl q23))
  obtain ⟨c1, iS1, hKn1⟩ := u_known (C := RX2) (T := TX2) (N := 7) (n := 7) hts0 (fun w h => lw_all_tbl (in_X2 w h)) (hts0 _ (lw_all_tbl q155))
  obtain ⟨D, hKc⟩ : ∃ D : va_G, ∀ (k : Nat) (q : vw_C), ww_cl[k]? = some q → u_Kn s q.1 q.2.1 q.2.2 (D.1 k) (D.2 k) := by
    refine ⟨(fun k => if k = 0 then c0 else c1, fun k => if k = 0 then iS0 else iS1), ?_⟩
    intro k q hq
    match k, hq with
    | 0, hq => cases hq; exact hKn0
    | 1, hq => cases hq; exact hKn1
    | k + 2, hq => simp [ww_cl] at hq
  have hS : va_S (fun q : Nat => s.heap.size ≤ q) s.heap s.heap [] := va_S.rf
  have hK : va_K D ww_cl [] s := ⟨hKc, fun k q h => by simp at h⟩
  have hP : va_P D ww_cl [] s.heap := fun k q h => by simp at h
  have hD : va_D (fun q : Nat => s.heap.size ≤ q) [] := ⟨fun i j p q h => by simp at h, fun k q h => by simp at h⟩
  have hl := lv_entry ([.ref b]) (n := 4) (Nat.le_of_ble_eq_true rfl)
  rw [lg_entry_eq]
  generalize (lg_sl ([.ref b]) ++ List.replicate (4 - (lg_sl ([.ref b])).length) Slot.unset).toArray = ls at hl ⊢
  have hl : lv_has ls 4 [(0, .ref b)] := hl
  refine va_new (ci := 0) (fs := [.int 0, .null, .null, .null, .null, .null, .null, .int 0, .int 0, .int 0]) (C := RX1) (T := TX1) (N := 10) hx hb hts in_X1 tyX1 tyX1_ok hown (hts _ q22) (hts _ q23) (hts _ q19) hK hP hD hS hA rfl (fun j hj => by rcases (show j = 0 ∨ j = 1 ∨ j = 2 ∨ j = 3 ∨ j = 4 ∨ j = 5 ∨ j = 6 ∨ j = 7 ∨ j = 8 ∨ j = 9 by omega) with rfl | rfl | rfl | rfl | rfl | rfl | rfl | rfl | rfl | rfl <;> rfl) (Nat.le_of_ble_eq_true rfl) (Nat.le_of_ble_eq_true rfl) dL_law_0 (fun h0 H hP hD hS => ?_)
  have hP : va_P D ww_cl [(h0, .inr (0, [.int 0, .null, .null, .null, .null, .null, .null, .int 0, .int 0, .int 0]))] H := hP
  have hD : va_D (fun q : Nat => s.heap.size ≤ q) [(h0, .inr (0, [.int 0, .null, .null, .null, .null, .null, .null, .int 0, .int 0, .int 0]))] := hD
  refine W.widen (k := 1) (n := 10) (by omega) (by omega) ?_
  refine lv_dup hx hb dL_law_3 rfl ?_
  refine lv_aload_n hx hb dL_law_4 rfl (lv_at hl 0 rfl) ?_
  refine lv_iconst (v := nI 0) hx hb dL_law_5 (by decide) ?_
  refine ww_roX (As := [.ref b, .int (nI 0)]) (rest := [.ref h0, .ref h0]) ⟨hx, hb, hml, hown, hts⟩ hX hbl hbA hS (metX0_cell l b L xs hL) (va_cwS 2 hts (lw_S q151 q152 q18 q153) rfl rfl rfl (by decide +kernel) ⟨Nat.le_of_ble_eq_true rfl, Nat.le_of_ble_eq_true rfl⟩) rfl rfl (Nat.le_of_ble_eq_true rfl) hl.1 ⟨by decide, by decide⟩ dL_law_6 (fun r_6 h_6 => ?_)
  have h_6 : r_6 = ww_cell L xs := h_6
  subst h_6
  have hPc := hP.sub (ws' := [(h0, .inr (0, [.int 0, .null, .null, .null, .null, .null, .null, .int 0, .int 0, .int 0]))]) [0] rfl
  have hDc := hD.sub (ws' := [(h0, .inr (0, [.int 0, .null, .null, .null, .null, .null, .null, .int 0, .int 0, .int 0]))]) [0] (by decide) rfl
  have hKc2 := hK.sub (tys' := []) [] rfl
  have hFc := va_free (wc := [(h0, .inr (0, [.int 0, .null, .null, .null, .null, .null, .null, .int 0, .int 0, .int 0]))]) hD hS hA [0] rfl
  refine va_callv (va_runI (As := [.int (ww_cell L xs)]) (rest := [.ref h0]) ⟨hx, hb, hml, hown, hts⟩ (metX1_init l D h0 H.size (ww_cell L xs)) (cwI 1 hts (lw_meth q26) rfl rfl rfl (hts _ q19) (hts _ q24) (hts _ q25) rfl (by decide +kernel) ⟨Nat.le_of_ble_eq_true rfl, Nat.le_of_ble_eq_true rfl⟩) ⟨fun a U g mk q => by obtain ⟨q0, q1, qP, qK, qD⟩ := q; exact ⟨q0, q1, qP, va_K.moved (u := U) (U := U.calling g mk a) (Vm.Alike.refl U.vm) qK, qD⟩, fun U hU hW => ⟨rfl, by rw [hU], by rw [hU]; exact hPc, va_K.moved hW.alike hKc2, hDc.weaken (fun _ _ _ _ => trivial)⟩⟩ rfl rfl hl.1 rfl (lv_room (Nat.le_of_ble_eq_true rfl)) dL_law_9 ⟨Nat.le_of_ble_eq_true rfl, Nat.le_of_ble_eq_true rfl⟩) hS (fun q _ h => hFc q h) hFc (fun u t H1 locs ht hvm hw hB hz1 hk1 hS => ?_)
  obtain ⟨ax, dx⟩ := u
  obtain ⟨hP1, hK1, hD1⟩ := hB
  rw [ht] at hP1
  have hKx := va_K.moved hvm.symm hK1
  have hw : ax 0 = h0 := hw
  obtain ⟨hP, hD⟩ := va_join (wr := []) (w1 := ww_X ax dx (ww_rt (ww_cell L xs)) (ww_mk 40) (fun _ => 0) (ww_mk 160) (fun _ => 0) (fun _ => 0) (fun _ => 0) (nI 1) 0 0) hP hD [0] [] rfl rfl (by decide) (by decide) hk1 hFc hP1 hD1
  generalize H1 = H at hP hS ⊢
  have hP : va_P D ww_cl (ww_X ax dx (ww_rt (ww_cell L xs)) (ww_mk 40) (fun _ => 0) (ww_mk 160) (fun _ => 0) (fun _ => 0) (fun _ => 0) (nI 1) 0 0) H := hP
  have hD : va_D (fun q : Nat => s.heap.size ≤ q) (ww_X ax dx (ww_rt (ww_cell L xs)) (ww_mk 40) (fun _ => 0) (ww_mk 160) (fun _ => 0) (fun _ => 0) (fun _ => 0) (nI 1) 0 0) := hD
  rw [← hw]
  refine W.widen (k := 7) (n := 786) (by omega) (by omega) ?_
  refine lv_astore_n (lv' := [(1, .ref (ax 0)), (0, .ref b)]) hx hb dL_law_12 rfl hl (by decide) rfl (fun ls hl => ?_)
  refine va_new (ci := 1) (fs := [.int 0, .null, .null, .null, .null, .int 0, .int 0]) (C := RX2) (T := TX2) (N := 7) hx hb hts in_X2 tyX2 tyX2_ok hown (hts _ q154) (hts _ q155) (hts _ q21) hK hP hD hS hA rfl (fun j hj => by rcases (show j = 0 ∨ j = 1 ∨ j = 2 ∨ j = 3 ∨ j = 4 ∨ j = 5 ∨ j = 6 by omega) with rfl | rfl | rfl | rfl | rfl | rfl | rfl <;> rfl) (Nat.le_of_ble_eq_true rfl) (Nat.le_of_ble_eq_true rfl) dL_law_13 (fun h1 H hP hD hS => ?_)
  have hP : va_P D ww_cl (ww_X ax dx (ww_rt (ww_cell L xs)) (ww_mk 40) (fun _ => 0) (ww_mk 160) (fun _ => 0) (fun _ => 0) (fun _ => 0) (nI 1) 0 0 ++ [(h1, .inr (1, [.int 0, .null, .null, .null, .null, .int 0, .int 0]))]) H := hP
  have hD : va_D (fun q : Nat => s.heap.size ≤ q) (ww_X ax dx (ww_rt (ww_cell L xs)) (ww_mk 40) (fun _ => 0) (ww_mk 160) (fun _ => 0) (fun _ => 0) (fun _ => 0) (nI 1) 0 0 ++ [(h1, .inr (1, [.int 0, .null, .null, .null, .null, .int 0, .int 0]))]) := hD
  refine W.widen (k := 8) (n := 793) (by omega) (by omega) ?_
  refine lv_dup hx hb dL_law_16 rfl ?_
  refine lv_aload_n hx hb dL_law_17 rfl (lv_at hl 1 rfl) ?_
  refine lv_iconst (v := nI 0) hx hb dL_law_18 (by decide) ?_
  refine ww_roX (As := [.ref b, .int (nI 0)]) (rest := [.ref h1, .ref h1]) ⟨hx, hb, hml, hown, hts⟩ hX hbl hbA hS (metX0_cell l b L xs hL) (va_cwS 2 hts (lw_S q151 q152 q18 q153) rfl rfl rfl (by decide +kernel) ⟨Nat.le_of_ble_eq_true rfl, Nat.le_of_ble_eq_true rfl⟩) rfl rfl (Nat.le_of_ble_eq_true rfl) hl.1 ⟨by decide, by decide⟩ dL_law_19 (fun r_19 h_19 => ?_)
  have h_19 : r_19 = ww_cell L xs := h_19
  subst h_19
  have hPc := hP.sub (ws' := [(h1, .inr (1, [.int 0, .null, .null, .null, .null, .int 0, .int 0]))]) [7] rfl
  have hDc := hD.sub (ws' := [(h1, .inr (1, [.int 0, .null, .null, .null, .null, .int 0, .int 0]))]) [7] (by decide) rfl
  have hKc2 := hK.sub (tys' := []) [] rfl
  have hFc := va_free (wc := [(h1, .inr (1, [.int 0, .null, .null, .null, .null, .int 0, .int 0]))]) hD hS hA [7] rfl
  refine va_callv (va_runI (As := [.int (ww_cell L xs)]) (rest := [.ref h1]) ⟨hx, hb, hml, hown, hts⟩ (metX2_init l D h1 H.size (ww_cell L xs)) (cwI 1 hts (lw_meth q158) rfl rfl rfl (hts _ q21) (hts _ q156) (hts _ q157) rfl (by decide +kernel) ⟨Nat.le_of_ble_eq_true rfl, Nat.le_of_ble_eq_true rfl⟩) ⟨fun a U g mk q => by obtain ⟨q0, q1, qP, qK, qD⟩ := q; exact ⟨q0, q1, qP, va_K.moved (u := U) (U := U.calling g mk a) (Vm.Alike.refl U.vm) qK, qD⟩, fun U hU hW => ⟨rfl, by rw [hU], by rw [hU]; exact hPc, va_K.moved hW.alike hKc2, hDc.weaken (fun _ _ _ _ => trivial)⟩⟩ rfl rfl hl.1 rfl (lv_room (Nat.le_of_ble_eq_true rfl)) dL_law_22 ⟨Nat.le_of_ble_eq_true rfl, Nat.le_of_ble_eq_true rfl⟩) hS (fun q _ h => hFc q h) hFc (fun u t H1 locs ht hvm hw hB hz1 hk1 hS => ?_)
  obtain ⟨am, dm⟩ := u
  obtain ⟨hP1, hK1, hD1⟩ := hB
  rw [ht] at hP1
  have hKm := va_K.moved hvm.symm hK1
  have hw2 : am 0 = h1 := hw
  obtain ⟨hP, hD⟩ := va_join (wr := ww_X ax dx (ww_rt (ww_cell L xs)) (ww_mk 40) (fun _ => 0) (ww_mk 160) (fun _ => 0) (fun _ => 0) (fun _ => 0) (nI 1) 0 0) (w1 := ww_M am dm (ww_rt (ww_cell L xs)) (ww_mk 40) (fun _ => 0) (fun _ => 0) (fun _ => 0) 0 0) hP hD [7] [0, 1, 2, 3, 4, 5, 6] rfl rfl (by decide) (by decide) hk1 hFc hP1 hD1
  generalize H1 = H at hP hS hP1 ⊢
  have hPx : va_P D ww_cl (ww_X ax dx (ww_rt (ww_cell L xs)) (ww_mk 40) (fun _ => 0) (ww_mk 160) (fun _ => 0) (fun _ => 0) (fun _ => 0) (nI 1) 0 0) H := hP.sub [0, 1, 2, 3, 4, 5, 6] rfl
  rw [← hw2]
  refine W.widen (k := 12) (n := 899) (by omega) (by omega) ?_
  refine lv_astore_n (lv' := [(2, .ref (am 0)), (1, .ref (ax 0)), (0, .ref b)]) hx hb dL_law_25 rfl hl (by decide) rfl (fun ls hl => ?_)
  refine lv_iconst (v := nI 1) hx hb dL_law_26 (by decide) ?_
  refine lv_istore_n (lv' := [(3, .int (nI 1)), (2, .ref (am 0)), (1, .ref (ax 0)), (0, .ref b)]) hx hb dL_law_27 rfl hl (by decide) rfl (fun ls hl => ?_)
  obtain ⟨i1, i2, i3⟩ := ww_inv_start (ww_cell L xs)
  exact law_loop hL C0 hKx hKm (L + 1) 1 (by omega) (by omega) _ _ _ _ _ _ _ _ _ _ _ _ i1 i2 i3 _ _ hPx hP1 hD hS ls (lv_sub hl [3, 2, 1, 0] rfl)
end
section
set_option maxHeartbeats 4000000 in
theorem lw_walk (l : Launch) (b : Addr) (xs : List Int32) : MetFree l x (headSpec (Jvm.Cond.code x code maxLocals ret :: tables_1) room_1) (lw_P b xs) (fun _ _ _ _ _ => True) lw_Q := by
  refine MetFree.of_bodyS (code := code) (maxLocals := maxLocals) (ret := ret) (by decide) ?_ ?_
  · intro args s m h hn
    obtain ⟨meth, c, h1, h2, h3, h4, h5, h6, -, -⟩ := Cond.code_spec hn (atoms_spec (ws := Jvm.Cond.code x code maxLocals ret :: tables_1) h _ List.mem_cons_self)
    exact ⟨meth, c, h1, h2, h3, h4, h5, h6⟩
  · intro p e s m args below meth c s₁ B hml0 hP _
    obtain ⟨rfl, hx, hbd, hgv⟩ := hP
    obtain ⟨scr, harrAt, hlist, hof, hsmall⟩ := hx
    obtain ⟨hcb, hkn, -, -⟩ := State.arrayAt?_spec harrAt
    have hown : s.vm.findClass R_law = some m.cls := findClass_of_methodNamed B.named
    have hts0 : ∀ c ∈ (Jvm.Cond.code x code maxLocals ret :: tables_1), c.before #[Value.ref b] s = true := atoms_spec (ws := Jvm.Cond.code x code maxLocals ret :: tables_1) B.pre
    have hts : ∀ w ∈ lw_tbl, w.before #[Value.ref b] s = true := k2_hts_sels lw_privs (fun w hw => hts0 w (List.mem_cons_of_mem _ hw)) lw_privs_ok
    have hml : c.maxLocals = 4 := B.maxLocals_eq (hts0 _ List.mem_cons_self)
    have X₀ : Stand p l e room_1 s m #[Value.ref b] below meth c s₁ [] 0 0 := Stand.of_body B
    have hh0 : s₁.heap = s.heap := by rw [B.state]; rfl
    have hsz : scr.slots.size = xs.length := by rw [← Array.length_toList, hlist, List.length_map]
    have hval : ∀ j : Nat, j < xs.length → scr.slots[j]? = some (.int (xs.getD j 0)) := fun j hj => by
      rw [← Array.getElem?_toList, hlist]
      simp [hj]
    have hbl : b < s.heap.size := (Array.getElem?_eq_some_iff.mp hcb).1
    have hX : va_X b xs.length (fun j => xs.getD j 0) s s.heap := ⟨scr, hcb, hof, hkn, hsz, hval⟩
    have K : W p l e room_1 s m #[Value.ref b] below meth c s₁.heap [] 0 0 (lw_Z below #[Value.ref b] s) (entryFrame m ([Value.ref b] : List Value).toArray 4) := by
      rw [hh0]
      exact whole_start l hbd ⟨B.exec, B.bytes, B.returns, hml, hown, hts, hX, hbl, B.notSynchronized, hgv⟩
    obtain ⟨t, a1, o, b1, b2, b3⟩ := K s₁ rfl X₀
    exact ⟨t, o, a1, b1, b2, b3⟩
theorem lw_pre_spec {args : Array Value} {s : State} (h : (Jvm.Cond.and given_1 narrow_1).before args s = true) (hr : rest_1_c.before args s = true) : ∃ (b : Addr) (xs : List Int32), lw_P b xs args s := by
  have hs := flat_of_before _ h
  have hq := flat_of_before _ hr
  have hc : (Cond.count 1).before args s = true := hs _ (by decide +kernel)
  have harr : (Cond.arrayOf (.arg 0) .int).before args s = true := hs _ (by decide +kernel)
  have hle : (Cond.le (.length (.arg 0)) (.int 321)).before args s = true := hs _ (by decide +kernel)
  have hlen : (Cond.isInt (.length (.arg 0))).before args s = true := hq _ (by decide +kernel)
  have hall : (Cond.all (.arg 0) (.isInt (.elem (.arg 0) (.index 0)))).before args s = true := hq _ (by decide +kernel)
  obtain ⟨b, xs, hb, hx⟩ := State.ints_of_pre rfl harr hlen hall
  have hsm : xs.length < 2 ^ 31 := hx.choose_spec.2.2.2
  have hev : (Term.length (.arg 0)).eval args s none [] s = some (.int xs.length.toInt32) := hx.length_eval hb
  have hv := Cond.le_ints hev (show (Term.int 321).eval args s none [] s = some (.int 321) from rfl)
  have hd : xs.length.toInt32 ≤ 321 := by
    simpa [Cond.before, Cond.holds, hv] using hle
  have hN : xs.length ≤ 321 := (Int32.ofNat_le_ofNat hsm (by decide)).mp (show Int32.ofNat xs.length ≤ Int32.ofNat 321 from hd)
  exact ⟨b, xs, Cond.one_arg hc (show args[0]? = some (.ref b) from hb), hx, hN, h⟩
theorem lw_comes (l : Launch) : Comes l x (Jvm.Cond.code x code maxLocals ret :: tables_1) room_1 (fun tb e args s => Calls_1 tb e args s ∧ rest_1 tb e args s ∧ Pre_1 tb e args s)
    (fun _ _ args s o t => lw_Q args s o t) := by
  intro p e ha hc hk s m args below hf hfit hheap happ hpre
  obtain ⟨b, xs, hP⟩ := lw_pre_spec hpre.2.2 hpre.2.1
  obtain ⟨k, o, h1, h2, h3, hQ⟩ := lw_walk l b xs p e ha hc hk s m args below hf ((Spec.applies_iff_loose hf).mp happ).1 hP trivial
  exact ⟨k, o, h1, h2, h3, hQ⟩
theorem lw_frame {s t : State} {o : Outcome} {args : Array Value} (h : Framed s o t [] 600000 7290000) :
    Framed s o t (fieldLocs frame_1_writes args s ++ arrayLocs frame_1_arrays args s ++ staticLocs frame_1_statics s) 600000 7290000 := h
theorem lw_limb (L : Cond) (hL : ∀ (args : Array Value) (s t : State), L.after args s (.returned (some (.int 1))) t = true) :
    ArmFor flags0 classFile x code maxLocals ret World_1 tables_1 room_1 Calls_1 rest_1 Pre_1
      (fun tb e a s o t => postC L tb e a s o t ∧ Framed s o t (fieldLocs frame_1_writes a s ++ arrayLocs frame_1_arrays a s ++ staticLocs frame_1_statics s) 600000 7290000) := by
  intro l _ _ _ p e ha hc hk s m args below hf hfit hheap happ hpre
  obtain ⟨k, o, h1, h2, h3, rfl, hF⟩ := lw_comes l p e ha hc hk s m args below hf hfit hheap happ hpre
  exact ⟨k, _, h1, h2, h3, hL args s _, lw_frame hF⟩
theorem i_vc : Claimed_1_1 ∧ Claimed_1_2 := ⟨lw_limb limb_1_1 (fun args s t => by simp [limb_1_1, Cond.after, Cond.holds, Cond.value]), lw_limb limb_1_2 (fun args s t => Cond.after_iff.mpr (by
  first | (rw [show limb_1_2 = Cond.eq .result (.int 1) from rfl, Cond.eq_ints (x := 1) (y := 1) rfl rfl]; simp; done) | (simp [limb_1_2, Cond.value, Term.eval]; done)))⟩
end
