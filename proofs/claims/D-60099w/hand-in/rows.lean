section
-- ===== PART A: goes FIRST, ahead of the names: the tables' words, and 'selects' of the private methods out of them =====
/-- a private method of a class that the tables say can be made, by its rows of tables_1 -/
def lw_okq (q : MethodName × Nat) : Prop := (q.1.cls ≠ "java/lang/invoke/MethodHandle" ∧ q.1.cls ≠ "java/lang/invoke/VarHandle") ∧ Cond.instantiable q.1.cls q.2 ∈ tables_1 ∧ Cond.privateMethod q.1 ∈ tables_1 ∧ Cond.instanceMethod q.1 ∈ tables_1
set_option maxRecDepth 100000
theorem lw_t1 {w : Cond} (h : w ∈ tables_1_1) : w ∈ tables_1 := List.mem_append_left _ h
theorem lw_t2 {w : Cond} (h : w ∈ tables_1_2) : w ∈ tables_1 := List.mem_append_right _ h
theorem lw_p0 : lw_okq (⟨"ThreeValued", "read", "(I)V"⟩, 20) := ⟨⟨by decide +kernel, by decide +kernel⟩, lw_t1 (List.mem_of_getElem? (i := 4) rfl), lw_t1 (List.mem_of_getElem? (i := 93) rfl), lw_t1 (List.mem_of_getElem? (i := 94) rfl)⟩
theorem lw_p1 : lw_okq (⟨"ThreeValued", "attach", "(I)V"⟩, 20) := ⟨⟨by decide +kernel, by decide +kernel⟩, lw_t1 (List.mem_of_getElem? (i := 4) rfl), lw_t1 (List.mem_of_getElem? (i := 97) rfl), lw_t1 (List.mem_of_getElem? (i := 98) rfl)⟩
theorem lw_p2 : lw_okq (⟨"ThreeValued", "not", "(I)I"⟩, 20) := ⟨⟨by decide +kernel, by decide +kernel⟩, lw_t1 (List.mem_of_getElem? (i := 4) rfl), lw_t1 (List.mem_of_getElem? (i := 116) rfl), lw_t1 (List.mem_of_getElem? (i := 117) rfl)⟩
theorem lw_p3 : lw_okq (⟨"ThreeValued", "apply", "(III)I"⟩, 20) := ⟨⟨by decide +kernel, by decide +kernel⟩, lw_t1 (List.mem_of_getElem? (i := 4) rfl), lw_t1 (List.mem_of_getElem? (i := 120) rfl), lw_t1 (List.mem_of_getElem? (i := 121) rfl)⟩
theorem lw_p4 : lw_okq (⟨"ThreeValued", "askOne", "(II)V"⟩, 20) := ⟨⟨by decide +kernel, by decide +kernel⟩, lw_t1 (List.mem_of_getElem? (i := 4) rfl), lw_t1 (List.mem_of_getElem? (i := 131) rfl), lw_t1 (List.mem_of_getElem? (i := 132) rfl)⟩
theorem lw_p5 : lw_okq (⟨"ThreeValued", "ask", "(II)V"⟩, 20) := ⟨⟨by decide +kernel, by decide +kernel⟩, lw_t1 (List.mem_of_getElem? (i := 4) rfl), lw_t1 (List.mem_of_getElem? (i := 135) rfl), lw_t1 (List.mem_of_getElem? (i := 136) rfl)⟩
theorem lw_p6 : lw_okq (⟨"ThreeValued", "least", "()I"⟩, 20) := ⟨⟨by decide +kernel, by decide +kernel⟩, lw_t1 (List.mem_of_getElem? (i := 4) rfl), lw_t1 (List.mem_of_getElem? (i := 139) rfl), lw_t1 (List.mem_of_getElem? (i := 140) rfl)⟩
theorem lw_p7 : lw_okq (⟨"ThreeValued", "meets", "()Z"⟩, 20) := ⟨⟨by decide +kernel, by decide +kernel⟩, lw_t1 (List.mem_of_getElem? (i := 4) rfl), lw_t1 (List.mem_of_getElem? (i := 143) rfl), lw_t1 (List.mem_of_getElem? (i := 144) rfl)⟩
theorem lw_p8 : lw_okq (⟨"ThreeValued", "demand", "(II)V"⟩, 20) := ⟨⟨by decide +kernel, by decide +kernel⟩, lw_t1 (List.mem_of_getElem? (i := 4) rfl), lw_t1 (List.mem_of_getElem? (i := 147) rfl), lw_t1 (List.mem_of_getElem? (i := 148) rfl)⟩
theorem lw_p9 : lw_okq (⟨"ThreeValued", "goOn", "()I"⟩, 20) := ⟨⟨by decide +kernel, by decide +kernel⟩, lw_t1 (List.mem_of_getElem? (i := 4) rfl), lw_t1 (List.mem_of_getElem? (i := 151) rfl), lw_t1 (List.mem_of_getElem? (i := 152) rfl)⟩
theorem lw_p10 : lw_okq (⟨"ThreeValued", "beforeNot", "(I)I"⟩, 20) := ⟨⟨by decide +kernel, by decide +kernel⟩, lw_t1 (List.mem_of_getElem? (i := 4) rfl), lw_t1 (List.mem_of_getElem? (i := 155) rfl), lw_t1 (List.mem_of_getElem? (i := 156) rfl)⟩
theorem lw_p11 : lw_okq (⟨"ThreeValued", "open", "(I)V"⟩, 20) := ⟨⟨by decide +kernel, by decide +kernel⟩, lw_t1 (List.mem_of_getElem? (i := 4) rfl), lw_t1 (List.mem_of_getElem? (i := 160) rfl), lw_t1 (List.mem_of_getElem? (i := 161) rfl)⟩
theorem lw_p12 : lw_okq (⟨"ThreeValued", "nextTurn", "(I)Z"⟩, 20) := ⟨⟨by decide +kernel, by decide +kernel⟩, lw_t1 (List.mem_of_getElem? (i := 4) rfl), lw_t1 (List.mem_of_getElem? (i := 164) rfl), lw_t1 (List.mem_of_getElem? (i := 165) rfl)⟩
theorem lw_p13 : lw_okq (⟨"ThreeValued", "partners", "(III)I"⟩, 20) := ⟨⟨by decide +kernel, by decide +kernel⟩, lw_t1 (List.mem_of_getElem? (i := 4) rfl), lw_t1 (List.mem_of_getElem? (i := 168) rfl), lw_t1 (List.mem_of_getElem? (i := 169) rfl)⟩
theorem lw_p14 : lw_okq (⟨"ThreeValued", "leastValue", "(I)I"⟩, 20) := ⟨⟨by decide +kernel, by decide +kernel⟩, lw_t1 (List.mem_of_getElem? (i := 4) rfl), lw_t1 (List.mem_of_getElem? (i := 172) rfl), lw_t1 (List.mem_of_getElem? (i := 173) rfl)⟩
theorem lw_p15 : lw_okq (⟨"ThreeValued", "both", "()Z"⟩, 20) := ⟨⟨by decide +kernel, by decide +kernel⟩, lw_t1 (List.mem_of_getElem? (i := 4) rfl), lw_t1 (List.mem_of_getElem? (i := 188) rfl), lw_t1 (List.mem_of_getElem? (i := 189) rfl)⟩
def lw_privs_1 : List (MethodName × Nat) := [(⟨"ThreeValued", "read", "(I)V"⟩, 20), (⟨"ThreeValued", "attach", "(I)V"⟩, 20), (⟨"ThreeValued", "not", "(I)I"⟩, 20), (⟨"ThreeValued", "apply", "(III)I"⟩, 20), (⟨"ThreeValued", "askOne", "(II)V"⟩, 20), (⟨"ThreeValued", "ask", "(II)V"⟩, 20), (⟨"ThreeValued", "least", "()I"⟩, 20), (⟨"ThreeValued", "meets", "()Z"⟩, 20), (⟨"ThreeValued", "demand", "(II)V"⟩, 20), (⟨"ThreeValued", "goOn", "()I"⟩, 20), (⟨"ThreeValued", "beforeNot", "(I)I"⟩, 20), (⟨"ThreeValued", "open", "(I)V"⟩, 20), (⟨"ThreeValued", "nextTurn", "(I)Z"⟩, 20), (⟨"ThreeValued", "partners", "(III)I"⟩, 20), (⟨"ThreeValued", "leastValue", "(I)I"⟩, 20), (⟨"ThreeValued", "both", "()Z"⟩, 20)]
theorem lw_r1 : ∀ q ∈ lw_privs_1, lw_okq q := List.forall_mem_cons.mpr ⟨lw_p0, List.forall_mem_cons.mpr ⟨lw_p1, List.forall_mem_cons.mpr ⟨lw_p2, List.forall_mem_cons.mpr ⟨lw_p3, List.forall_mem_cons.mpr ⟨lw_p4, List.forall_mem_cons.mpr ⟨lw_p5, List.forall_mem_cons.mpr ⟨lw_p6, List.forall_mem_cons.mpr ⟨lw_p7, List.forall_mem_cons.mpr ⟨lw_p8, List.forall_mem_cons.mpr ⟨lw_p9, List.forall_mem_cons.mpr ⟨lw_p10, List.forall_mem_cons.mpr ⟨lw_p11, List.forall_mem_cons.mpr ⟨lw_p12, List.forall_mem_cons.mpr ⟨lw_p13, List.forall_mem_cons.mpr ⟨lw_p14, List.forall_mem_cons.mpr ⟨lw_p15, fun _ h => absurd h List.not_mem_nil⟩⟩⟩⟩⟩⟩⟩⟩⟩⟩⟩⟩⟩⟩⟩⟩
theorem lw_p16 : lw_okq (⟨"ThreeValued", "never", "(II)Z"⟩, 20) := ⟨⟨by decide +kernel, by decide +kernel⟩, lw_t1 (List.mem_of_getElem? (i := 4) rfl), lw_t1 (List.mem_of_getElem? (i := 196) rfl), lw_t1 (List.mem_of_getElem? (i := 197) rfl)⟩
theorem lw_p17 : lw_okq (⟨"ThreeValuedModel", "eval", "(II)I"⟩, 4) := ⟨⟨by decide +kernel, by decide +kernel⟩, lw_t1 (List.mem_of_getElem? (i := 215) rfl), lw_t2 (List.mem_of_getElem? (i := 20) rfl), lw_t2 (List.mem_of_getElem? (i := 21) rfl)⟩
theorem lw_p18 : lw_okq (⟨"ThreeValuedModel", "letter", "(II)I"⟩, 4) := ⟨⟨by decide +kernel, by decide +kernel⟩, lw_t1 (List.mem_of_getElem? (i := 215) rfl), lw_t2 (List.mem_of_getElem? (i := 24) rfl), lw_t2 (List.mem_of_getElem? (i := 25) rfl)⟩
theorem lw_p19 : lw_okq (⟨"ThreeValuedModel", "not", "(I)I"⟩, 4) := ⟨⟨by decide +kernel, by decide +kernel⟩, lw_t1 (List.mem_of_getElem? (i := 215) rfl), lw_t2 (List.mem_of_getElem? (i := 28) rfl), lw_t2 (List.mem_of_getElem? (i := 29) rfl)⟩
theorem lw_p20 : lw_okq (⟨"ThreeValuedModel", "implies", "(II)I"⟩, 4) := ⟨⟨by decide +kernel, by decide +kernel⟩, lw_t1 (List.mem_of_getElem? (i := 215) rfl), lw_t2 (List.mem_of_getElem? (i := 32) rfl), lw_t2 (List.mem_of_getElem? (i := 33) rfl)⟩
def lw_privs_2 : List (MethodName × Nat) := [(⟨"ThreeValued", "never", "(II)Z"⟩, 20), (⟨"ThreeValuedModel", "eval", "(II)I"⟩, 4), (⟨"ThreeValuedModel", "letter", "(II)I"⟩, 4), (⟨"ThreeValuedModel", "not", "(I)I"⟩, 4), (⟨"ThreeValuedModel", "implies", "(II)I"⟩, 4)]
theorem lw_r2 : ∀ q ∈ lw_privs_2, lw_okq q := List.forall_mem_cons.mpr ⟨lw_p16, List.forall_mem_cons.mpr ⟨lw_p17, List.forall_mem_cons.mpr ⟨lw_p18, List.forall_mem_cons.mpr ⟨lw_p19, List.forall_mem_cons.mpr ⟨lw_p20, fun _ h => absurd h List.not_mem_nil⟩⟩⟩⟩⟩
def lw_privs : List (MethodName × Nat) := lw_privs_1 ++ (lw_privs_2)
def lw_tbl : List Cond := k2_sels lw_privs ++ tables_1
theorem lw_privs_ok : ∀ q ∈ lw_privs, lw_okq q := by
  show ∀ q ∈ lw_privs_1 ++ (lw_privs_2), lw_okq q
  exact List.forall_mem_append.mpr ⟨lw_r1, lw_r2⟩
-- ===== ONE list of words for every method: the tables' words that hold all through a run =====
def lw_all : List Cond := lw_tbl.filter goodWord
/-- a word of the tables by its place: claim/WORDS.tsv -/
theorem lw_w {w : Cond} (i : Nat) (h : lw_tbl[i]? = some w) (g : goodWord w = true) : w ∈ lw_all := List.mem_filter.mpr ⟨List.mem_of_getElem? h, g⟩
theorem lw_all_tbl {w : Cond} (h : w ∈ lw_all) : w ∈ lw_tbl := (List.mem_filter.mp h).1
theorem lw_self : GoodIn lw_all lw_all := fun w h => ⟨h, good_of_word (List.mem_filter.mp h).2⟩
/-- a class's field words, by their places -/
theorem lw_in (ws : List Cond) (ps : List Nat) (hp : ws = ps.filterMap (fun i => lw_tbl[i]?)) (hg : ws.all goodWord = true) : ∀ w ∈ ws, w ∈ lw_all := by
  intro w h
  have h1 := List.all_eq_true.mp hg w h
  rw [hp] at h
  obtain ⟨i, -, hi⟩ := List.mem_filterMap.mp h
  exact lw_w i hi h1
/-- the words of a contract for the method y with code b, L locals, answer r -/
abbrev ws_ (y : MethodName) (b : ByteArray) (L : Nat) (r : Option FieldType) : List Cond := Cond.code y b L r :: lw_all
theorem lw_meth {y : MethodName} {b : ByteArray} {L : Nat} {r : Option FieldType} (h : Cond.code y b L r ∈ lw_all) : GoodIn lw_all (ws_ y b L r) := by
  intro w hw
  rcases List.mem_cons.mp hw with e | e
  · rw [e]
    exact lw_self _ h
  · exact lw_self _ e
theorem lw_app {a c : List Cond} (ha : ∀ w ∈ a, w ∈ lw_all) (hc : GoodIn lw_all c) : GoodIn lw_all (a ++ c) := by
  intro w hw
  rcases List.mem_append.mp hw with e | e
  · exact lw_self w (ha w e)
  · exact hc w e
/-- what a call through an object asks: cwV n hts (lw_V ..) -/
theorem lw_V {own : String} {idx : Nat} {C : String} {y : MethodName} {b : ByteArray} {L : Nat} {r : Option FieldType} (h1 : Cond.methodLink own idx y ∈ lw_all) (h2 : Cond.instanceMethod y ∈ lw_all) (h3 : Cond.selects C y y ∈ lw_all) (h4 : Cond.initialized C ∈ lw_all) (h5 : Cond.code y b L r ∈ lw_all) : GoodIn lw_all (wsV own idx C y (ws_ y b L r)) := by
  refine lw_app ?_ (lw_meth h5)
  intro w hw
  simp only [List.mem_cons, List.not_mem_nil, or_false] at hw
  rcases hw with e | e | e | e
  · rw [e]; exact h1
  · rw [e]; exact h2
  · rw [e]; exact h3
  · rw [e]; exact h4
/-- what a static call asks: va_cwS n hts (lw_S ..) -/
theorem lw_S {own : String} {idx : Nat} {y : MethodName} {b : ByteArray} {L : Nat} {r : Option FieldType} (h1 : Cond.methodLink own idx y ∈ lw_all) (h2 : Cond.static y ∈ lw_all) (h3 : Cond.initialized y.cls ∈ lw_all) (h4 : Cond.code y b L r ∈ lw_all) : GoodIn lw_all (va_wsS own idx y (ws_ y b L r)) := by
  refine lw_app ?_ (lw_meth h4)
  intro w hw
  simp only [List.mem_cons, List.not_mem_nil, or_false] at hw
  rcases hw with e | e | e
  · rw [e]; exact h1
  · rw [e]; exact h2
  · rw [e]; exact h3
/-- the words of a contract for a method WITH HANDLERS (hh: its table) -/
abbrev wsW_ (y : MethodName) (b : ByteArray) (L : Nat) (r : Option FieldType) (hh : List (Nat × Nat × Nat × Nat)) : List Cond := Cond.codeWith y b L r hh :: lw_all
theorem lw_methW {y : MethodName} {b : ByteArray} {L : Nat} {r : Option FieldType} {hh : List (Nat × Nat × Nat × Nat)} (h : Cond.codeWith y b L r hh ∈ lw_all) : GoodIn lw_all (wsW_ y b L r hh) := by
  intro w hw
  rcases List.mem_cons.mp hw with e | e
  · rw [e]
    exact lw_self _ h
  · exact lw_self _ e
/-- any list of words by their places (lw_in), good -/
theorem lw_good {ws : List Cond} (h : ∀ w ∈ ws, w ∈ lw_all) : GoodIn lw_all ws := fun w hw => lw_self w (h w hw)
/-- what a call of a method with handlers asks: vx_cwVW n hts (lw_VW ..), vx_cwSW n hts (lw_SW ..) -/
theorem lw_VW {own : String} {idx : Nat} {C : String} {y : MethodName} {b : ByteArray} {L : Nat} {r : Option FieldType} {hh : List (Nat × Nat × Nat × Nat)} (h1 : Cond.methodLink own idx y ∈ lw_all) (h2 : Cond.instanceMethod y ∈ lw_all) (h3 : Cond.selects C y y ∈ lw_all) (h4 : Cond.initialized C ∈ lw_all) (h5 : Cond.codeWith y b L r hh ∈ lw_all) : GoodIn lw_all (wsV own idx C y (wsW_ y b L r hh)) := by
  refine lw_app ?_ (lw_methW h5)
  intro w hw
  simp only [List.mem_cons, List.not_mem_nil, or_false] at hw
  rcases hw with e | e | e | e
  · rw [e]; exact h1
  · rw [e]; exact h2
  · rw [e]; exact h3
  · rw [e]; exact h4
theorem lw_SW {own : String} {idx : Nat} {y : MethodName} {b : ByteArray} {L : Nat} {r : Option FieldType} {hh : List (Nat × Nat × Nat × Nat)} (h1 : Cond.methodLink own idx y ∈ lw_all) (h2 : Cond.static y ∈ lw_all) (h3 : Cond.initialized y.cls ∈ lw_all) (h4 : Cond.codeWith y b L r hh ∈ lw_all) : GoodIn lw_all (va_wsS own idx y (wsW_ y b L r hh)) := by
  refine lw_app ?_ (lw_methW h4)
  intro w hw
  simp only [List.mem_cons, List.not_mem_nil, or_false] at hw
  rcases hw with e | e | e
  · rw [e]; exact h1
  · rw [e]; exact h2
  · rw [e]; exact h3
/-- a word by its place in its run of the tables -/
theorem lw_at {r : List Cond} (hr : ∀ w ∈ r, w ∈ lw_tbl) {w : Cond} (i : Nat) (h : r[i]? = some w) : w ∈ lw_tbl := hr w (List.mem_of_getElem? h)
theorem lw_g {w : Cond} (h : w ∈ lw_tbl) (g : goodWord w = true) : w ∈ lw_all := List.mem_filter.mpr ⟨h, g⟩
theorem lw_ms : ∀ w ∈ k2_sels lw_privs, w ∈ lw_tbl := fun w h => show w ∈ k2_sels lw_privs ++ tables_1 from List.mem_append_left _ h
theorem lw_m1 : ∀ w ∈ tables_1_1, w ∈ lw_tbl := fun w h => show w ∈ k2_sels lw_privs ++ tables_1 from List.mem_append_right (k2_sels lw_privs) (show w ∈ tables_1 from List.mem_append_left _ h)
theorem lw_m2 : ∀ w ∈ tables_1_2, w ∈ lw_tbl := fun w h => show w ∈ k2_sels lw_privs ++ tables_1 from List.mem_append_right (k2_sels lw_privs) (show w ∈ tables_1 from List.mem_append_right _ h)
theorem qs0 : (Cond.selects "ThreeValued" ⟨"ThreeValued", "read", "(I)V"⟩ ⟨"ThreeValued", "read", "(I)V"⟩) ∈ lw_all := lw_g (lw_at lw_ms 0 rfl) rfl
theorem qs1 : (Cond.selects "ThreeValued" ⟨"ThreeValued", "attach", "(I)V"⟩ ⟨"ThreeValued", "attach", "(I)V"⟩) ∈ lw_all := lw_g (lw_at lw_ms 1 rfl) rfl
theorem qs2 : (Cond.selects "ThreeValued" ⟨"ThreeValued", "not", "(I)I"⟩ ⟨"ThreeValued", "not", "(I)I"⟩) ∈ lw_all := lw_g (lw_at lw_ms 2 rfl) rfl
theorem qs3 : (Cond.selects "ThreeValued" ⟨"ThreeValued", "apply", "(III)I"⟩ ⟨"ThreeValued", "apply", "(III)I"⟩) ∈ lw_all := lw_g (lw_at lw_ms 3 rfl) rfl
theorem qs4 : (Cond.selects "ThreeValued" ⟨"ThreeValued", "askOne", "(II)V"⟩ ⟨"ThreeValued", "askOne", "(II)V"⟩) ∈ lw_all := lw_g (lw_at lw_ms 4 rfl) rfl
theorem qs5 : (Cond.selects "ThreeValued" ⟨"ThreeValued", "ask", "(II)V"⟩ ⟨"ThreeValued", "ask", "(II)V"⟩) ∈ lw_all := lw_g (lw_at lw_ms 5 rfl) rfl
theorem qs6 : (Cond.selects "ThreeValued" ⟨"ThreeValued", "least", "()I"⟩ ⟨"ThreeValued", "least", "()I"⟩) ∈ lw_all := lw_g (lw_at lw_ms 6 rfl) rfl
theorem qs7 : (Cond.selects "ThreeValued" ⟨"ThreeValued", "meets", "()Z"⟩ ⟨"ThreeValued", "meets", "()Z"⟩) ∈ lw_all := lw_g (lw_at lw_ms 7 rfl) rfl
theorem qs8 : (Cond.selects "ThreeValued" ⟨"ThreeValued", "demand", "(II)V"⟩ ⟨"ThreeValued", "demand", "(II)V"⟩) ∈ lw_all := lw_g (lw_at lw_ms 8 rfl) rfl
theorem qs9 : (Cond.selects "ThreeValued" ⟨"ThreeValued", "goOn", "()I"⟩ ⟨"ThreeValued", "goOn", "()I"⟩) ∈ lw_all := lw_g (lw_at lw_ms 9 rfl) rfl
theorem qs10 : (Cond.selects "ThreeValued" ⟨"ThreeValued", "beforeNot", "(I)I"⟩ ⟨"ThreeValued", "beforeNot", "(I)I"⟩) ∈ lw_all := lw_g (lw_at lw_ms 10 rfl) rfl
theorem qs11 : (Cond.selects "ThreeValued" ⟨"ThreeValued", "open", "(I)V"⟩ ⟨"ThreeValued", "open", "(I)V"⟩) ∈ lw_all := lw_g (lw_at lw_ms 11 rfl) rfl
theorem qs12 : (Cond.selects "ThreeValued" ⟨"ThreeValued", "nextTurn", "(I)Z"⟩ ⟨"ThreeValued", "nextTurn", "(I)Z"⟩) ∈ lw_all := lw_g (lw_at lw_ms 12 rfl) rfl
theorem qs13 : (Cond.selects "ThreeValued" ⟨"ThreeValued", "partners", "(III)I"⟩ ⟨"ThreeValued", "partners", "(III)I"⟩) ∈ lw_all := lw_g (lw_at lw_ms 13 rfl) rfl
theorem qs14 : (Cond.selects "ThreeValued" ⟨"ThreeValued", "leastValue", "(I)I"⟩ ⟨"ThreeValued", "leastValue", "(I)I"⟩) ∈ lw_all := lw_g (lw_at lw_ms 14 rfl) rfl
theorem qs15 : (Cond.selects "ThreeValued" ⟨"ThreeValued", "both", "()Z"⟩ ⟨"ThreeValued", "both", "()Z"⟩) ∈ lw_all := lw_g (lw_at lw_ms 15 rfl) rfl
theorem qs16 : (Cond.selects "ThreeValued" ⟨"ThreeValued", "never", "(II)Z"⟩ ⟨"ThreeValued", "never", "(II)Z"⟩) ∈ lw_all := lw_g (lw_at lw_ms 16 rfl) rfl
theorem qs17 : (Cond.selects "ThreeValuedModel" ⟨"ThreeValuedModel", "eval", "(II)I"⟩ ⟨"ThreeValuedModel", "eval", "(II)I"⟩) ∈ lw_all := lw_g (lw_at lw_ms 17 rfl) rfl
theorem qs18 : (Cond.selects "ThreeValuedModel" ⟨"ThreeValuedModel", "letter", "(II)I"⟩ ⟨"ThreeValuedModel", "letter", "(II)I"⟩) ∈ lw_all := lw_g (lw_at lw_ms 18 rfl) rfl
theorem qs19 : (Cond.selects "ThreeValuedModel" ⟨"ThreeValuedModel", "not", "(I)I"⟩ ⟨"ThreeValuedModel", "not", "(I)I"⟩) ∈ lw_all := lw_g (lw_at lw_ms 19 rfl) rfl
theorem qs20 : (Cond.selects "ThreeValuedModel" ⟨"ThreeValuedModel", "implies", "(II)I"⟩ ⟨"ThreeValuedModel", "implies", "(II)I"⟩) ∈ lw_all := lw_g (lw_at lw_ms 20 rfl) rfl
end
section
set_option maxRecDepth 100000
/-! java/lang/Object -/
def RJ0 : String := "java/lang/Object"
abbrev cJ0_init : ByteArray := object_method_1_code
def yJ0_init : MethodName := ⟨RJ0, "<init>", "()V"⟩
theorem q30 : (Jvm.Cond.instanceMethod ({ cls := "java/lang/Object", name := "<init>", desc := "()V" } : Jvm.MethodName)) ∈ lw_all := lw_g (lw_at lw_m1 9 rfl) rfl
theorem q31 : (Jvm.Cond.code ({ cls := "java/lang/Object", name := "<init>", desc := "()V" } : Jvm.MethodName) object_method_1_code (1 : Nat) (Option.none : Option Jvm.ClassFile.FieldType)) ∈ lw_all := lw_g (lw_at lw_m1 10 rfl) rfl
theorem q93 : (Jvm.Cond.arrayClass Jvm.ClassFile.FieldType.byte) ∈ lw_all := lw_g (lw_at lw_m1 72 rfl) rfl
theorem q254 : (Jvm.Cond.arrayClass Jvm.ClassFile.FieldType.int) ∈ lw_all := lw_g (lw_at lw_m1 233 rfl) rfl
/-! ThreeValuedLaw -/
def RX0 : String := "ThreeValuedLaw"
abbrev cX0_cell : ByteArray := method_2_code
def yX0_cell : MethodName := ⟨RX0, "cell", "([II)I"⟩
theorem q21 : (Jvm.Cond.initialized "ThreeValuedLaw") ∈ lw_all := lw_g (lw_at lw_m1 0 rfl) rfl
theorem q24 : (Jvm.Cond.classLink "ThreeValuedLaw" (7 : Nat) "ThreeValued") ∈ lw_all := lw_g (lw_at lw_m1 3 rfl) rfl
theorem q26 : (Jvm.Cond.methodLink "ThreeValuedLaw" (15 : Nat) ({ cls := "ThreeValued", name := "<init>", desc := "(I)V" } : Jvm.MethodName)) ∈ lw_all := lw_g (lw_at lw_m1 5 rfl) rfl
theorem q94 : (Jvm.Cond.methodLink "ThreeValuedLaw" (21 : Nat) ({ cls := "ThreeValued", name := "logic", desc := "()I" } : Jvm.MethodName)) ∈ lw_all := lw_g (lw_at lw_m1 73 rfl) rfl
theorem q98 : (Jvm.Cond.methodLink "ThreeValuedLaw" (26 : Nat) ({ cls := "ThreeValued", name := "setLogic", desc := "(I)Z" } : Jvm.MethodName)) ∈ lw_all := lw_g (lw_at lw_m1 77 rfl) rfl
theorem q102 : (Jvm.Cond.methodLink "ThreeValuedLaw" (31 : Nat) ({ cls := "ThreeValued", name := "feed", desc := "(II)I" } : Jvm.MethodName)) ∈ lw_all := lw_g (lw_at lw_m1 81 rfl) rfl
theorem q124 : (Jvm.Cond.methodLink "ThreeValuedLaw" (36 : Nat) ({ cls := "ThreeValued", name := "back", desc := "(I)I" } : Jvm.MethodName)) ∈ lw_all := lw_g (lw_at lw_m1 103 rfl) rfl
theorem q128 : (Jvm.Cond.methodLink "ThreeValuedLaw" (41 : Nat) ({ cls := "ThreeValued", name := "complete", desc := "(I)Z" } : Jvm.MethodName)) ∈ lw_all := lw_g (lw_at lw_m1 107 rfl) rfl
theorem q129 : (Jvm.Cond.methodLink "ThreeValuedLaw" (45 : Nat) ({ cls := "ThreeValued", name := "value", desc := "(II)I" } : Jvm.MethodName)) ∈ lw_all := lw_g (lw_at lw_m1 108 rfl) rfl
theorem q144 : (Jvm.Cond.methodLink "ThreeValuedLaw" (49 : Nat) ({ cls := "ThreeValued", name := "find", desc := "(II)I" } : Jvm.MethodName)) ∈ lw_all := lw_g (lw_at lw_m1 123 rfl) rfl
theorem q196 : (Jvm.Cond.methodLink "ThreeValuedLaw" (53 : Nat) ({ cls := "ThreeValued", name := "values", desc := "(I)I" } : Jvm.MethodName)) ∈ lw_all := lw_g (lw_at lw_m1 175 rfl) rfl
theorem q200 : (Jvm.Cond.methodLink "ThreeValuedLaw" (57 : Nat) ({ cls := "ThreeValued", name := "valid", desc := "(I)Z" } : Jvm.MethodName)) ∈ lw_all := lw_g (lw_at lw_m1 179 rfl) rfl
theorem q204 : (Jvm.Cond.methodLink "ThreeValuedLaw" (61 : Nat) ({ cls := "ThreeValued", name := "findBoth", desc := "(II)I" } : Jvm.MethodName)) ∈ lw_all := lw_g (lw_at lw_m1 183 rfl) rfl
theorem q212 : (Jvm.Cond.methodLink "ThreeValuedLaw" (65 : Nat) ({ cls := "ThreeValued", name := "entails", desc := "()Z" } : Jvm.MethodName)) ∈ lw_all := lw_g (lw_at lw_m1 191 rfl) rfl
theorem q220 : (Jvm.Cond.methodLink "ThreeValuedLaw" (70 : Nat) ({ cls := "ThreeValued", name := "below", desc := "()Z" } : Jvm.MethodName)) ∈ lw_all := lw_g (lw_at lw_m1 199 rfl) rfl
theorem q224 : (Jvm.Cond.methodLink "ThreeValuedLaw" (74 : Nat) ({ cls := "ThreeValued", name := "alike", desc := "()Z" } : Jvm.MethodName)) ∈ lw_all := lw_g (lw_at lw_m1 203 rfl) rfl
theorem q228 : (Jvm.Cond.methodLink "ThreeValuedLaw" (78 : Nat) ({ cls := "ThreeValued", name := "findApart", desc := "(II)I" } : Jvm.MethodName)) ∈ lw_all := lw_g (lw_at lw_m1 207 rfl) rfl
theorem q232 : (Jvm.Cond.methodLink "ThreeValuedLaw" (9 : Nat) ({ cls := "ThreeValuedLaw", name := "cell", desc := "([II)I" } : Jvm.MethodName)) ∈ lw_all := lw_g (lw_at lw_m1 211 rfl) rfl
theorem q233 : (Jvm.Cond.static ({ cls := "ThreeValuedLaw", name := "cell", desc := "([II)I" } : Jvm.MethodName)) ∈ lw_all := lw_g (lw_at lw_m1 212 rfl) rfl
theorem q234 : (Jvm.Cond.code ({ cls := "ThreeValuedLaw", name := "cell", desc := "([II)I" } : Jvm.MethodName) method_2_code (2 : Nat) (Option.some Jvm.ClassFile.FieldType.int)) ∈ lw_all := lw_g (lw_at lw_m1 213 rfl) rfl
theorem q235 : (Jvm.Cond.classLink "ThreeValuedLaw" (18 : Nat) "ThreeValuedModel") ∈ lw_all := lw_g (lw_at lw_m1 214 rfl) rfl
theorem q237 : (Jvm.Cond.methodLink "ThreeValuedLaw" (20 : Nat) ({ cls := "ThreeValuedModel", name := "<init>", desc := "(I)V" } : Jvm.MethodName)) ∈ lw_all := lw_g (lw_at lw_m1 216 rfl) rfl
theorem q255 : (Jvm.Cond.methodLink "ThreeValuedLaw" (25 : Nat) ({ cls := "ThreeValuedModel", name := "logic", desc := "()I" } : Jvm.MethodName)) ∈ lw_all := lw_g (lw_at lw_m1 234 rfl) rfl
theorem q259 : (Jvm.Cond.methodLink "ThreeValuedLaw" (30 : Nat) ({ cls := "ThreeValuedModel", name := "setLogic", desc := "(I)Z" } : Jvm.MethodName)) ∈ lw_all := lw_g (lw_at lw_m1 238 rfl) rfl
theorem q263 : (Jvm.Cond.methodLink "ThreeValuedLaw" (35 : Nat) ({ cls := "ThreeValuedModel", name := "feed", desc := "(II)I" } : Jvm.MethodName)) ∈ lw_all := lw_g (lw_at lw_m2 2 rfl) rfl
theorem q271 : (Jvm.Cond.methodLink "ThreeValuedLaw" (40 : Nat) ({ cls := "ThreeValuedModel", name := "back", desc := "(I)I" } : Jvm.MethodName)) ∈ lw_all := lw_g (lw_at lw_m2 10 rfl) rfl
theorem q275 : (Jvm.Cond.methodLink "ThreeValuedLaw" (44 : Nat) ({ cls := "ThreeValuedModel", name := "complete", desc := "(I)Z" } : Jvm.MethodName)) ∈ lw_all := lw_g (lw_at lw_m2 14 rfl) rfl
theorem q276 : (Jvm.Cond.methodLink "ThreeValuedLaw" (48 : Nat) ({ cls := "ThreeValuedModel", name := "value", desc := "(II)I" } : Jvm.MethodName)) ∈ lw_all := lw_g (lw_at lw_m2 15 rfl) rfl
theorem q296 : (Jvm.Cond.methodLink "ThreeValuedLaw" (52 : Nat) ({ cls := "ThreeValuedModel", name := "find", desc := "(II)I" } : Jvm.MethodName)) ∈ lw_all := lw_g (lw_at lw_m2 35 rfl) rfl
theorem q300 : (Jvm.Cond.methodLink "ThreeValuedLaw" (56 : Nat) ({ cls := "ThreeValuedModel", name := "values", desc := "(I)I" } : Jvm.MethodName)) ∈ lw_all := lw_g (lw_at lw_m2 39 rfl) rfl
theorem q304 : (Jvm.Cond.methodLink "ThreeValuedLaw" (60 : Nat) ({ cls := "ThreeValuedModel", name := "valid", desc := "(I)Z" } : Jvm.MethodName)) ∈ lw_all := lw_g (lw_at lw_m2 43 rfl) rfl
theorem q309 : (Jvm.Cond.methodLink "ThreeValuedLaw" (64 : Nat) ({ cls := "ThreeValuedModel", name := "findBoth", desc := "(II)I" } : Jvm.MethodName)) ∈ lw_all := lw_g (lw_at lw_m2 48 rfl) rfl
theorem q313 : (Jvm.Cond.methodLink "ThreeValuedLaw" (69 : Nat) ({ cls := "ThreeValuedModel", name := "entails", desc := "()Z" } : Jvm.MethodName)) ∈ lw_all := lw_g (lw_at lw_m2 52 rfl) rfl
theorem q317 : (Jvm.Cond.methodLink "ThreeValuedLaw" (73 : Nat) ({ cls := "ThreeValuedModel", name := "below", desc := "()Z" } : Jvm.MethodName)) ∈ lw_all := lw_g (lw_at lw_m2 56 rfl) rfl
theorem q321 : (Jvm.Cond.methodLink "ThreeValuedLaw" (77 : Nat) ({ cls := "ThreeValuedModel", name := "alike", desc := "()Z" } : Jvm.MethodName)) ∈ lw_all := lw_g (lw_at lw_m2 60 rfl) rfl
theorem q325 : (Jvm.Cond.methodLink "ThreeValuedLaw" (81 : Nat) ({ cls := "ThreeValuedModel", name := "findApart", desc := "(II)I" } : Jvm.MethodName)) ∈ lw_all := lw_g (lw_at lw_m2 64 rfl) rfl
/-! ThreeValued -/
def RX1 : String := "ThreeValued"
def TX1 : u_T := fun k => match k with
  | 0 => ("ThreeValued", "logic", "I", false)
  | 1 => ("ThreeValued", "tokens", "[B", true)
  | 2 => ("ThreeValued", "sizes", "[B", true)
  | 3 => ("ThreeValued", "second", "[B", true)
  | 4 => ("ThreeValued", "openCell", "[B", true)
  | 5 => ("ThreeValued", "openWant", "[B", true)
  | 6 => ("ThreeValued", "openCount", "I", false)
  | 7 => ("ThreeValued", "demandCell", "[B", true)
  | 8 => ("ThreeValued", "demandValues", "[B", true)
  | 9 => ("ThreeValued", "demands", "I", false)
  | 10 => ("ThreeValued", "head", "I", false)
  | 11 => ("ThreeValued", "left", "[B", true)
  | 12 => ("ThreeValued", "branchDemands", "[B", true)
  | 13 => ("ThreeValued", "branchHead", "[B", true)
  | 14 => ("ThreeValued", "branchLeft", "[B", true)
  | 15 => ("ThreeValued", "branchTried", "[B", true)
  | 16 => ("ThreeValued", "firstValues", "I", false)
  | 17 => ("ThreeValued", "otherValues", "I", false)
  | 18 => ("ThreeValued", "openValues", "[B", true)
  | _ => ("ThreeValued", "worked", "[B", true)
def tyX1 : Nat → FieldType := fun k => match k with
  | 0 => .int
  | 1 => .array .byte
  | 2 => .array .byte
  | 3 => .array .byte
  | 4 => .array .byte
  | 5 => .array .byte
  | 6 => .int
  | 7 => .array .byte
  | 8 => .array .byte
  | 9 => .int
  | 10 => .int
  | 11 => .array .byte
  | 12 => .array .byte
  | 13 => .array .byte
  | 14 => .array .byte
  | 15 => .array .byte
  | 16 => .int
  | 17 => .int
  | 18 => .array .byte
  | _ => .array .byte
abbrev wsX10 : List Cond := u_ws RX1 TX1 20
set_option maxRecDepth 100000 in
theorem nmX1 : ∀ a, a < 20 → ∀ b, b < 20 → a ≠ b → (TX1 a).2.1 ≠ (TX1 b).2.1 := by decide +kernel
set_option maxRecDepth 100000 in
theorem tyX1_ok : ∀ k, k < 20 → parseFieldDescriptor (TX1 k).2.2.1 = some (tyX1 k) := by decide +kernel
abbrev cX1_init : ByteArray := prog_1_method_1_code
def yX1_init : MethodName := ⟨RX1, "<init>", "(I)V"⟩
abbrev cX1_logic : ByteArray := prog_1_method_2_code
def yX1_logic : MethodName := ⟨RX1, "logic", "()I"⟩
abbrev cX1_setLogic : ByteArray := prog_1_method_3_code
def yX1_setLogic : MethodName := ⟨RX1, "setLogic", "(I)Z"⟩
abbrev cX1_feed : ByteArray := prog_1_method_6_code
def yX1_feed : MethodName := ⟨RX1, "feed", "(II)I"⟩
abbrev cX1_isFormula : ByteArray := prog_1_method_4_code
def yX1_isFormula : MethodName := ⟨RX1, "isFormula", "(I)Z"⟩
abbrev cX1_complete : ByteArray := prog_1_method_8_code
def yX1_complete : MethodName := ⟨RX1, "complete", "(I)Z"⟩
abbrev cX1_read : ByteArray := prog_1_method_9_code
def yX1_read : MethodName := ⟨RX1, "read", "(I)V"⟩
abbrev cX1_attach : ByteArray := prog_1_method_10_code
def yX1_attach : MethodName := ⟨RX1, "attach", "(I)V"⟩
abbrev cX1_wants : ByteArray := prog_1_method_5_code
def yX1_wants : MethodName := ⟨RX1, "wants", "(I)I"⟩
abbrev cX1_back : ByteArray := prog_1_method_7_code
def yX1_back : MethodName := ⟨RX1, "back", "(I)I"⟩
abbrev cX1_value : ByteArray := prog_1_method_13_code
def yX1_value : MethodName := ⟨RX1, "value", "(II)I"⟩
abbrev cX1_valueOf : ByteArray := prog_1_method_14_code
def yX1_valueOf : MethodName := ⟨RX1, "valueOf", "(II)I"⟩
abbrev cX1_not : ByteArray := prog_1_method_11_code
def yX1_not : MethodName := ⟨RX1, "not", "(I)I"⟩
abbrev cX1_apply : ByteArray := prog_1_method_12_code
def yX1_apply : MethodName := ⟨RX1, "apply", "(III)I"⟩
abbrev cX1_find : ByteArray := prog_1_method_27_code
def yX1_find : MethodName := ⟨RX1, "find", "(II)I"⟩
abbrev cX1_isValue : ByteArray := prog_1_method_26_code
def yX1_isValue : MethodName := ⟨RX1, "isValue", "(I)Z"⟩
abbrev cX1_askOne : ByteArray := prog_1_method_23_code
def yX1_askOne : MethodName := ⟨RX1, "askOne", "(II)V"⟩
abbrev cX1_ask : ByteArray := prog_1_method_22_code
def yX1_ask : MethodName := ⟨RX1, "ask", "(II)V"⟩
abbrev cX1_least : ByteArray := prog_1_method_24_code
def yX1_least : MethodName := ⟨RX1, "least", "()I"⟩
abbrev cX1_meets : ByteArray := prog_1_method_16_code
def yX1_meets : MethodName := ⟨RX1, "meets", "()Z"⟩
abbrev cX1_demand : ByteArray := prog_1_method_15_code
def yX1_demand : MethodName := ⟨RX1, "demand", "(II)V"⟩
abbrev cX1_goOn : ByteArray := prog_1_method_17_code
def yX1_goOn : MethodName := ⟨RX1, "goOn", "()I"⟩
abbrev cX1_beforeNot : ByteArray := prog_1_method_18_code
def yX1_beforeNot : MethodName := ⟨RX1, "beforeNot", "(I)I"⟩
abbrev cX1_open : ByteArray := prog_1_method_19_code
def yX1_open : MethodName := ⟨RX1, "open", "(I)V"⟩
abbrev cX1_nextTurn : ByteArray := prog_1_method_20_code
def yX1_nextTurn : MethodName := ⟨RX1, "nextTurn", "(I)Z"⟩
abbrev cX1_partners : ByteArray := prog_1_method_21_code
def yX1_partners : MethodName := ⟨RX1, "partners", "(III)I"⟩
abbrev cX1_leastValue : ByteArray := prog_1_method_25_code
def yX1_leastValue : MethodName := ⟨RX1, "leastValue", "(I)I"⟩
abbrev cX1_values : ByteArray := prog_1_method_28_code
def yX1_values : MethodName := ⟨RX1, "values", "(I)I"⟩
abbrev cX1_valid : ByteArray := prog_1_method_29_code
def yX1_valid : MethodName := ⟨RX1, "valid", "(I)Z"⟩
abbrev cX1_findBoth : ByteArray := prog_1_method_31_code
def yX1_findBoth : MethodName := ⟨RX1, "findBoth", "(II)I"⟩
abbrev cX1_both : ByteArray := prog_1_method_30_code
def yX1_both : MethodName := ⟨RX1, "both", "()Z"⟩
abbrev cX1_entails : ByteArray := prog_1_method_33_code
def yX1_entails : MethodName := ⟨RX1, "entails", "()Z"⟩
abbrev cX1_never : ByteArray := prog_1_method_32_code
def yX1_never : MethodName := ⟨RX1, "never", "(II)Z"⟩
abbrev cX1_below : ByteArray := prog_1_method_34_code
def yX1_below : MethodName := ⟨RX1, "below", "()Z"⟩
abbrev cX1_alike : ByteArray := prog_1_method_35_code
def yX1_alike : MethodName := ⟨RX1, "alike", "()Z"⟩
abbrev cX1_findApart : ByteArray := prog_1_method_36_code
def yX1_findApart : MethodName := ⟨RX1, "findApart", "(II)I"⟩
theorem q22 : (Jvm.Cond.initialized "ThreeValued") ∈ lw_all := lw_g (lw_at lw_m1 1 rfl) rfl
theorem q25 : (Jvm.Cond.instantiable "ThreeValued" (20 : Nat)) ∈ lw_all := lw_g (lw_at lw_m1 4 rfl) rfl
theorem q27 : (Jvm.Cond.instanceMethod ({ cls := "ThreeValued", name := "<init>", desc := "(I)V" } : Jvm.MethodName)) ∈ lw_all := lw_g (lw_at lw_m1 6 rfl) rfl
theorem q28 : (Jvm.Cond.code ({ cls := "ThreeValued", name := "<init>", desc := "(I)V" } : Jvm.MethodName) prog_1_method_1_code (2 : Nat) (Option.none : Option Jvm.ClassFile.FieldType)) ∈ lw_all := lw_g (lw_at lw_m1 7 rfl) rfl
theorem q29 : (Jvm.Cond.methodLink "ThreeValued" (1 : Nat) ({ cls := "java/lang/Object", name := "<init>", desc := "()V" } : Jvm.MethodName)) ∈ lw_all := lw_g (lw_at lw_m1 8 rfl) rfl
theorem q32 : (Jvm.Cond.fieldLink "ThreeValued" (52 : Nat) "ThreeValued" "logic" "I") ∈ lw_all := lw_g (lw_at lw_m1 11 rfl) rfl
theorem q33 : (Jvm.Cond.fieldLink "ThreeValued" (7 : Nat) "ThreeValued" "tokens" "[B") ∈ lw_all := lw_g (lw_at lw_m1 12 rfl) rfl
theorem q34 : (Jvm.Cond.fieldLink "ThreeValued" (13 : Nat) "ThreeValued" "sizes" "[B") ∈ lw_all := lw_g (lw_at lw_m1 13 rfl) rfl
theorem q35 : (Jvm.Cond.fieldLink "ThreeValued" (16 : Nat) "ThreeValued" "second" "[B") ∈ lw_all := lw_g (lw_at lw_m1 14 rfl) rfl
theorem q36 : (Jvm.Cond.fieldLink "ThreeValued" (19 : Nat) "ThreeValued" "openCell" "[B") ∈ lw_all := lw_g (lw_at lw_m1 15 rfl) rfl
theorem q37 : (Jvm.Cond.fieldLink "ThreeValued" (22 : Nat) "ThreeValued" "openWant" "[B") ∈ lw_all := lw_g (lw_at lw_m1 16 rfl) rfl
theorem q38 : (Jvm.Cond.fieldLink "ThreeValued" (67 : Nat) "ThreeValued" "openCount" "I") ∈ lw_all := lw_g (lw_at lw_m1 17 rfl) rfl
theorem q39 : (Jvm.Cond.fieldLink "ThreeValued" (25 : Nat) "ThreeValued" "demandCell" "[B") ∈ lw_all := lw_g (lw_at lw_m1 18 rfl) rfl
theorem q40 : (Jvm.Cond.fieldLink "ThreeValued" (28 : Nat) "ThreeValued" "demandValues" "[B") ∈ lw_all := lw_g (lw_at lw_m1 19 rfl) rfl
theorem q41 : (Jvm.Cond.fieldLink "ThreeValued" (88 : Nat) "ThreeValued" "demands" "I") ∈ lw_all := lw_g (lw_at lw_m1 20 rfl) rfl
theorem q42 : (Jvm.Cond.fieldLink "ThreeValued" (91 : Nat) "ThreeValued" "head" "I") ∈ lw_all := lw_g (lw_at lw_m1 21 rfl) rfl
theorem q43 : (Jvm.Cond.fieldLink "ThreeValued" (31 : Nat) "ThreeValued" "left" "[B") ∈ lw_all := lw_g (lw_at lw_m1 22 rfl) rfl
theorem q44 : (Jvm.Cond.fieldLink "ThreeValued" (34 : Nat) "ThreeValued" "branchDemands" "[B") ∈ lw_all := lw_g (lw_at lw_m1 23 rfl) rfl
theorem q45 : (Jvm.Cond.fieldLink "ThreeValued" (37 : Nat) "ThreeValued" "branchHead" "[B") ∈ lw_all := lw_g (lw_at lw_m1 24 rfl) rfl
theorem q46 : (Jvm.Cond.fieldLink "ThreeValued" (40 : Nat) "ThreeValued" "branchLeft" "[B") ∈ lw_all := lw_g (lw_at lw_m1 25 rfl) rfl
theorem q47 : (Jvm.Cond.fieldLink "ThreeValued" (43 : Nat) "ThreeValued" "branchTried" "[B") ∈ lw_all := lw_g (lw_at lw_m1 26 rfl) rfl
theorem q48 : (Jvm.Cond.fieldLink "ThreeValued" (94 : Nat) "ThreeValued" "firstValues" "I") ∈ lw_all := lw_g (lw_at lw_m1 27 rfl) rfl
theorem q49 : (Jvm.Cond.fieldLink "ThreeValued" (101 : Nat) "ThreeValued" "otherValues" "I") ∈ lw_all := lw_g (lw_at lw_m1 28 rfl) rfl
theorem q50 : (Jvm.Cond.fieldLink "ThreeValued" (46 : Nat) "ThreeValued" "openValues" "[B") ∈ lw_all := lw_g (lw_at lw_m1 29 rfl) rfl
theorem q51 : (Jvm.Cond.fieldLink "ThreeValued" (49 : Nat) "ThreeValued" "worked" "[B") ∈ lw_all := lw_g (lw_at lw_m1 30 rfl) rfl
theorem q52 : (Jvm.Cond.lays "ThreeValued" "ThreeValued" "logic" "I") ∈ lw_all := lw_g (lw_at lw_m1 31 rfl) rfl
theorem q53 : (Jvm.Cond.soleField "ThreeValued" "logic") ∈ lw_all := lw_g (lw_at lw_m1 32 rfl) rfl
theorem q54 : (Jvm.Cond.laysFinal "ThreeValued" "ThreeValued" "tokens" "[B") ∈ lw_all := lw_g (lw_at lw_m1 33 rfl) rfl
theorem q55 : (Jvm.Cond.soleField "ThreeValued" "tokens") ∈ lw_all := lw_g (lw_at lw_m1 34 rfl) rfl
theorem q56 : (Jvm.Cond.laysFinal "ThreeValued" "ThreeValued" "sizes" "[B") ∈ lw_all := lw_g (lw_at lw_m1 35 rfl) rfl
theorem q57 : (Jvm.Cond.soleField "ThreeValued" "sizes") ∈ lw_all := lw_g (lw_at lw_m1 36 rfl) rfl
theorem q58 : (Jvm.Cond.laysFinal "ThreeValued" "ThreeValued" "second" "[B") ∈ lw_all := lw_g (lw_at lw_m1 37 rfl) rfl
theorem q59 : (Jvm.Cond.soleField "ThreeValued" "second") ∈ lw_all := lw_g (lw_at lw_m1 38 rfl) rfl
theorem q60 : (Jvm.Cond.laysFinal "ThreeValued" "ThreeValued" "openCell" "[B") ∈ lw_all := lw_g (lw_at lw_m1 39 rfl) rfl
theorem q61 : (Jvm.Cond.soleField "ThreeValued" "openCell") ∈ lw_all := lw_g (lw_at lw_m1 40 rfl) rfl
theorem q62 : (Jvm.Cond.laysFinal "ThreeValued" "ThreeValued" "openWant" "[B") ∈ lw_all := lw_g (lw_at lw_m1 41 rfl) rfl
theorem q63 : (Jvm.Cond.soleField "ThreeValued" "openWant") ∈ lw_all := lw_g (lw_at lw_m1 42 rfl) rfl
theorem q64 : (Jvm.Cond.lays "ThreeValued" "ThreeValued" "openCount" "I") ∈ lw_all := lw_g (lw_at lw_m1 43 rfl) rfl
theorem q65 : (Jvm.Cond.soleField "ThreeValued" "openCount") ∈ lw_all := lw_g (lw_at lw_m1 44 rfl) rfl
theorem q66 : (Jvm.Cond.laysFinal "ThreeValued" "ThreeValued" "demandCell" "[B") ∈ lw_all := lw_g (lw_at lw_m1 45 rfl) rfl
theorem q67 : (Jvm.Cond.soleField "ThreeValued" "demandCell") ∈ lw_all := lw_g (lw_at lw_m1 46 rfl) rfl
theorem q68 : (Jvm.Cond.laysFinal "ThreeValued" "ThreeValued" "demandValues" "[B") ∈ lw_all := lw_g (lw_at lw_m1 47 rfl) rfl
theorem q69 : (Jvm.Cond.soleField "ThreeValued" "demandValues") ∈ lw_all := lw_g (lw_at lw_m1 48 rfl) rfl
theorem q70 : (Jvm.Cond.lays "ThreeValued" "ThreeValued" "demands" "I") ∈ lw_all := lw_g (lw_at lw_m1 49 rfl) rfl
theorem q71 : (Jvm.Cond.soleField "ThreeValued" "demands") ∈ lw_all := lw_g (lw_at lw_m1 50 rfl) rfl
theorem q72 : (Jvm.Cond.lays "ThreeValued" "ThreeValued" "head" "I") ∈ lw_all := lw_g (lw_at lw_m1 51 rfl) rfl
theorem q73 : (Jvm.Cond.soleField "ThreeValued" "head") ∈ lw_all := lw_g (lw_at lw_m1 52 rfl) rfl
theorem q74 : (Jvm.Cond.laysFinal "ThreeValued" "ThreeValued" "left" "[B") ∈ lw_all := lw_g (lw_at lw_m1 53 rfl) rfl
theorem q75 : (Jvm.Cond.soleField "ThreeValued" "left") ∈ lw_all := lw_g (lw_at lw_m1 54 rfl) rfl
theorem q76 : (Jvm.Cond.laysFinal "ThreeValued" "ThreeValued" "branchDemands" "[B") ∈ lw_all := lw_g (lw_at lw_m1 55 rfl) rfl
theorem q77 : (Jvm.Cond.soleField "ThreeValued" "branchDemands") ∈ lw_all := lw_g (lw_at lw_m1 56 rfl) rfl
theorem q78 : (Jvm.Cond.laysFinal "ThreeValued" "ThreeValued" "branchHead" "[B") ∈ lw_all := lw_g (lw_at lw_m1 57 rfl) rfl
theorem q79 : (Jvm.Cond.soleField "ThreeValued" "branchHead") ∈ lw_all := lw_g (lw_at lw_m1 58 rfl) rfl
theorem q80 : (Jvm.Cond.laysFinal "ThreeValued" "ThreeValued" "branchLeft" "[B") ∈ lw_all := lw_g (lw_at lw_m1 59 rfl) rfl
theorem q81 : (Jvm.Cond.soleField "ThreeValued" "branchLeft") ∈ lw_all := lw_g (lw_at lw_m1 60 rfl) rfl
theorem q82 : (Jvm.Cond.laysFinal "ThreeValued" "ThreeValued" "branchTried" "[B") ∈ lw_all := lw_g (lw_at lw_m1 61 rfl) rfl
theorem q83 : (Jvm.Cond.soleField "ThreeValued" "branchTried") ∈ lw_all := lw_g (lw_at lw_m1 62 rfl) rfl
theorem q84 : (Jvm.Cond.lays "ThreeValued" "ThreeValued" "firstValues" "I") ∈ lw_all := lw_g (lw_at lw_m1 63 rfl) rfl
theorem q85 : (Jvm.Cond.soleField "ThreeValued" "firstValues") ∈ lw_all := lw_g (lw_at lw_m1 64 rfl) rfl
theorem q86 : (Jvm.Cond.lays "ThreeValued" "ThreeValued" "otherValues" "I") ∈ lw_all := lw_g (lw_at lw_m1 65 rfl) rfl
theorem q87 : (Jvm.Cond.soleField "ThreeValued" "otherValues") ∈ lw_all := lw_g (lw_at lw_m1 66 rfl) rfl
theorem q88 : (Jvm.Cond.laysFinal "ThreeValued" "ThreeValued" "openValues" "[B") ∈ lw_all := lw_g (lw_at lw_m1 67 rfl) rfl
theorem q89 : (Jvm.Cond.soleField "ThreeValued" "openValues") ∈ lw_all := lw_g (lw_at lw_m1 68 rfl) rfl
theorem q90 : (Jvm.Cond.laysFinal "ThreeValued" "ThreeValued" "worked" "[B") ∈ lw_all := lw_g (lw_at lw_m1 69 rfl) rfl
theorem q91 : (Jvm.Cond.soleField "ThreeValued" "worked") ∈ lw_all := lw_g (lw_at lw_m1 70 rfl) rfl
theorem q92 : (Jvm.Cond.superclass "ThreeValued" "java/lang/Object") ∈ lw_all := lw_g (lw_at lw_m1 71 rfl) rfl
theorem q95 : (Jvm.Cond.instanceMethod ({ cls := "ThreeValued", name := "logic", desc := "()I" } : Jvm.MethodName)) ∈ lw_all := lw_g (lw_at lw_m1 74 rfl) rfl
theorem q96 : (Jvm.Cond.selects "ThreeValued" ({ cls := "ThreeValued", name := "logic", desc := "()I" } : Jvm.MethodName) ({ cls := "ThreeValued", name := "logic", desc := "()I" } : Jvm.MethodName)) ∈ lw_all := lw_g (lw_at lw_m1 75 rfl) rfl
theorem q97 : (Jvm.Cond.code ({ cls := "ThreeValued", name := "logic", desc := "()I" } : Jvm.MethodName) prog_1_method_2_code (1 : Nat) (Option.some Jvm.ClassFile.FieldType.int)) ∈ lw_all := lw_g (lw_at lw_m1 76 rfl) rfl
theorem q99 : (Jvm.Cond.instanceMethod ({ cls := "ThreeValued", name := "setLogic", desc := "(I)Z" } : Jvm.MethodName)) ∈ lw_all := lw_g (lw_at lw_m1 78 rfl) rfl
theorem q100 : (Jvm.Cond.selects "ThreeValued" ({ cls := "ThreeValued", name := "setLogic", desc := "(I)Z" } : Jvm.MethodName) ({ cls := "ThreeValued", name := "setLogic", desc := "(I)Z" } : Jvm.MethodName)) ∈ lw_all := lw_g (lw_at lw_m1 79 rfl) rfl
theorem q101 : (Jvm.Cond.code ({ cls := "ThreeValued", name := "setLogic", desc := "(I)Z" } : Jvm.MethodName) prog_1_method_3_code (2 : Nat) (Option.some Jvm.ClassFile.FieldType.boolean)) ∈ lw_all := lw_g (lw_at lw_m1 80 rfl) rfl
theorem q103 : (Jvm.Cond.instanceMethod ({ cls := "ThreeValued", name := "feed", desc := "(II)I" } : Jvm.MethodName)) ∈ lw_all := lw_g (lw_at lw_m1 82 rfl) rfl
theorem q104 : (Jvm.Cond.selects "ThreeValued" ({ cls := "ThreeValued", name := "feed", desc := "(II)I" } : Jvm.MethodName) ({ cls := "ThreeValued", name := "feed", desc := "(II)I" } : Jvm.MethodName)) ∈ lw_all := lw_g (lw_at lw_m1 83 rfl) rfl
theorem q105 : (Jvm.Cond.code ({ cls := "ThreeValued", name := "feed", desc := "(II)I" } : Jvm.MethodName) prog_1_method_6_code (3 : Nat) (Option.some Jvm.ClassFile.FieldType.int)) ∈ lw_all := lw_g (lw_at lw_m1 84 rfl) rfl
theorem q106 : (Jvm.Cond.methodLink "ThreeValued" (56 : Nat) ({ cls := "ThreeValued", name := "isFormula", desc := "(I)Z" } : Jvm.MethodName)) ∈ lw_all := lw_g (lw_at lw_m1 85 rfl) rfl
theorem q107 : (Jvm.Cond.static ({ cls := "ThreeValued", name := "isFormula", desc := "(I)Z" } : Jvm.MethodName)) ∈ lw_all := lw_g (lw_at lw_m1 86 rfl) rfl
theorem q108 : (Jvm.Cond.code ({ cls := "ThreeValued", name := "isFormula", desc := "(I)Z" } : Jvm.MethodName) prog_1_method_4_code (1 : Nat) (Option.some Jvm.ClassFile.FieldType.boolean)) ∈ lw_all := lw_g (lw_at lw_m1 87 rfl) rfl
theorem q109 : (Jvm.Cond.methodLink "ThreeValued" (60 : Nat) ({ cls := "ThreeValued", name := "complete", desc := "(I)Z" } : Jvm.MethodName)) ∈ lw_all := lw_g (lw_at lw_m1 88 rfl) rfl
theorem q110 : (Jvm.Cond.instanceMethod ({ cls := "ThreeValued", name := "complete", desc := "(I)Z" } : Jvm.MethodName)) ∈ lw_all := lw_g (lw_at lw_m1 89 rfl) rfl
theorem q111 : (Jvm.Cond.selects "ThreeValued" ({ cls := "ThreeValued", name := "complete", desc := "(I)Z" } : Jvm.MethodName) ({ cls := "ThreeValued", name := "complete", desc := "(I)Z" } : Jvm.MethodName)) ∈ lw_all := lw_g (lw_at lw_m1 90 rfl) rfl
theorem q112 : (Jvm.Cond.code ({ cls := "ThreeValued", name := "complete", desc := "(I)Z" } : Jvm.MethodName) prog_1_method_8_code (2 : Nat) (Option.some Jvm.ClassFile.FieldType.boolean)) ∈ lw_all := lw_g (lw_at lw_m1 91 rfl) rfl
theorem q113 : (Jvm.Cond.methodLink "ThreeValued" (63 : Nat) ({ cls := "ThreeValued", name := "read", desc := "(I)V" } : Jvm.MethodName)) ∈ lw_all := lw_g (lw_at lw_m1 92 rfl) rfl
theorem q114 : (Jvm.Cond.privateMethod ({ cls := "ThreeValued", name := "read", desc := "(I)V" } : Jvm.MethodName)) ∈ lw_tbl := lw_at lw_m1 93 rfl
theorem q115 : (Jvm.Cond.instanceMethod ({ cls := "ThreeValued", name := "read", desc := "(I)V" } : Jvm.MethodName)) ∈ lw_all := lw_g (lw_at lw_m1 94 rfl) rfl
theorem q116 : (Jvm.Cond.code ({ cls := "ThreeValued", name := "read", desc := "(I)V" } : Jvm.MethodName) prog_1_method_9_code (5 : Nat) (Option.none : Option Jvm.ClassFile.FieldType)) ∈ lw_all := lw_g (lw_at lw_m1 95 rfl) rfl
theorem q117 : (Jvm.Cond.methodLink "ThreeValued" (70 : Nat) ({ cls := "ThreeValued", name := "attach", desc := "(I)V" } : Jvm.MethodName)) ∈ lw_all := lw_g (lw_at lw_m1 96 rfl) rfl
theorem q118 : (Jvm.Cond.privateMethod ({ cls := "ThreeValued", name := "attach", desc := "(I)V" } : Jvm.MethodName)) ∈ lw_tbl := lw_at lw_m1 97 rfl
theorem q119 : (Jvm.Cond.instanceMethod ({ cls := "ThreeValued", name := "attach", desc := "(I)V" } : Jvm.MethodName)) ∈ lw_all := lw_g (lw_at lw_m1 98 rfl) rfl
theorem q120 : (Jvm.Cond.code ({ cls := "ThreeValued", name := "attach", desc := "(I)V" } : Jvm.MethodName) prog_1_method_10_code (3 : Nat) (Option.none : Option Jvm.ClassFile.FieldType)) ∈ lw_all := lw_g (lw_at lw_m1 99 rfl) rfl
theorem q121 : (Jvm.Cond.methodLink "ThreeValued" (73 : Nat) ({ cls := "ThreeValued", name := "wants", desc := "(I)I" } : Jvm.MethodName)) ∈ lw_all := lw_g (lw_at lw_m1 100 rfl) rfl
theorem q122 : (Jvm.Cond.static ({ cls := "ThreeValued", name := "wants", desc := "(I)I" } : Jvm.MethodName)) ∈ lw_all := lw_g (lw_at lw_m1 101 rfl) rfl
theorem q123 : (Jvm.Cond.code ({ cls := "ThreeValued", name := "wants", desc := "(I)I" } : Jvm.MethodName) prog_1_method_5_code (1 : Nat) (Option.some Jvm.ClassFile.FieldType.int)) ∈ lw_all := lw_g (lw_at lw_m1 102 rfl) rfl
theorem q125 : (Jvm.Cond.instanceMethod ({ cls := "ThreeValued", name := "back", desc := "(I)I" } : Jvm.MethodName)) ∈ lw_all := lw_g (lw_at lw_m1 104 rfl) rfl
theorem q126 : (Jvm.Cond.selects "ThreeValued" ({ cls := "ThreeValued", name := "back", desc := "(I)I" } : Jvm.MethodName) ({ cls := "ThreeValued", name := "back", desc := "(I)I" } : Jvm.MethodName)) ∈ lw_all := lw_g (lw_at lw_m1 105 rfl) rfl
theorem q127 : (Jvm.Cond.code ({ cls := "ThreeValued", name := "back", desc := "(I)I" } : Jvm.MethodName) prog_1_method_7_code (2 : Nat) (Option.some Jvm.ClassFile.FieldType.int)) ∈ lw_all := lw_g (lw_at lw_m1 106 rfl) rfl
theorem q130 : (Jvm.Cond.instanceMethod ({ cls := "ThreeValued", name := "value", desc := "(II)I" } : Jvm.MethodName)) ∈ lw_all := lw_g (lw_at lw_m1 109 rfl) rfl
theorem q131 : (Jvm.Cond.selects "ThreeValued" ({ cls := "ThreeValued", name := "value", desc := "(II)I" } : Jvm.MethodName) ({ cls := "ThreeValued", name := "value", desc := "(II)I" } : Jvm.MethodName)) ∈ lw_all := lw_g (lw_at lw_m1 110 rfl) rfl
theorem q132 : (Jvm.Cond.code ({ cls := "ThreeValued", name := "value", desc := "(II)I" } : Jvm.MethodName) prog_1_method_13_code (6 : Nat) (Option.some Jvm.ClassFile.FieldType.int)) ∈ lw_all := lw_g (lw_at lw_m1 111 rfl) rfl
theorem q133 : (Jvm.Cond.methodLink "ThreeValued" (77 : Nat) ({ cls := "ThreeValued", name := "valueOf", desc := "(II)I" } : Jvm.MethodName)) ∈ lw_all := lw_g (lw_at lw_m1 112 rfl) rfl
theorem q134 : (Jvm.Cond.static ({ cls := "ThreeValued", name := "valueOf", desc := "(II)I" } : Jvm.MethodName)) ∈ lw_all := lw_g (lw_at lw_m1 113 rfl) rfl
theorem q135 : (Jvm.Cond.code ({ cls := "ThreeValued", name := "valueOf", desc := "(II)I" } : Jvm.MethodName) prog_1_method_14_code (4 : Nat) (Option.some Jvm.ClassFile.FieldType.int)) ∈ lw_all := lw_g (lw_at lw_m1 114 rfl) rfl
theorem q136 : (Jvm.Cond.methodLink "ThreeValued" (81 : Nat) ({ cls := "ThreeValued", name := "not", desc := "(I)I" } : Jvm.MethodName)) ∈ lw_all := lw_g (lw_at lw_m1 115 rfl) rfl
theorem q137 : (Jvm.Cond.privateMethod ({ cls := "ThreeValued", name := "not", desc := "(I)I" } : Jvm.MethodName)) ∈ lw_tbl := lw_at lw_m1 116 rfl
theorem q138 : (Jvm.Cond.instanceMethod ({ cls := "ThreeValued", name := "not", desc := "(I)I" } : Jvm.MethodName)) ∈ lw_all := lw_g (lw_at lw_m1 117 rfl) rfl
theorem q139 : (Jvm.Cond.code ({ cls := "ThreeValued", name := "not", desc := "(I)I" } : Jvm.MethodName) prog_1_method_11_code (2 : Nat) (Option.some Jvm.ClassFile.FieldType.int)) ∈ lw_all := lw_g (lw_at lw_m1 118 rfl) rfl
theorem q140 : (Jvm.Cond.methodLink "ThreeValued" (84 : Nat) ({ cls := "ThreeValued", name := "apply", desc := "(III)I" } : Jvm.MethodName)) ∈ lw_all := lw_g (lw_at lw_m1 119 rfl) rfl
theorem q141 : (Jvm.Cond.privateMethod ({ cls := "ThreeValued", name := "apply", desc := "(III)I" } : Jvm.MethodName)) ∈ lw_tbl := lw_at lw_m1 120 rfl
theorem q142 : (Jvm.Cond.instanceMethod ({ cls := "ThreeValued", name := "apply", desc := "(III)I" } : Jvm.MethodName)) ∈ lw_all := lw_g (lw_at lw_m1 121 rfl) rfl
theorem q143 : (Jvm.Cond.code ({ cls := "ThreeValued", name := "apply", desc := "(III)I" } : Jvm.MethodName) prog_1_method_12_code (4 : Nat) (Option.some Jvm.ClassFile.FieldType.int)) ∈ lw_all := lw_g (lw_at lw_m1 122 rfl) rfl
theorem q145 : (Jvm.Cond.instanceMethod ({ cls := "ThreeValued", name := "find", desc := "(II)I" } : Jvm.MethodName)) ∈ lw_all := lw_g (lw_at lw_m1 124 rfl) rfl
theorem q146 : (Jvm.Cond.selects "ThreeValued" ({ cls := "ThreeValued", name := "find", desc := "(II)I" } : Jvm.MethodName) ({ cls := "ThreeValued", name := "find", desc := "(II)I" } : Jvm.MethodName)) ∈ lw_all := lw_g (lw_at lw_m1 125 rfl) rfl
theorem q147 : (Jvm.Cond.code ({ cls := "ThreeValued", name := "find", desc := "(II)I" } : Jvm.MethodName) prog_1_method_27_code (3 : Nat) (Option.some Jvm.ClassFile.FieldType.int)) ∈ lw_all := lw_g (lw_at lw_m1 126 rfl) rfl
theorem q148 : (Jvm.Cond.methodLink "ThreeValued" (131 : Nat) ({ cls := "ThreeValued", name := "isValue", desc := "(I)Z" } : Jvm.MethodName)) ∈ lw_all := lw_g (lw_at lw_m1 127 rfl) rfl
theorem q149 : (Jvm.Cond.static ({ cls := "ThreeValued", name := "isValue", desc := "(I)Z" } : Jvm.MethodName)) ∈ lw_all := lw_g (lw_at lw_m1 128 rfl) rfl
theorem q150 : (Jvm.Cond.code ({ cls := "ThreeValued", name := "isValue", desc := "(I)Z" } : Jvm.MethodName) prog_1_method_26_code (1 : Nat) (Option.some Jvm.ClassFile.FieldType.boolean)) ∈ lw_all := lw_g (lw_at lw_m1 129 rfl) rfl
theorem q151 : (Jvm.Cond.methodLink "ThreeValued" (134 : Nat) ({ cls := "ThreeValued", name := "askOne", desc := "(II)V" } : Jvm.MethodName)) ∈ lw_all := lw_g (lw_at lw_m1 130 rfl) rfl
theorem q152 : (Jvm.Cond.privateMethod ({ cls := "ThreeValued", name := "askOne", desc := "(II)V" } : Jvm.MethodName)) ∈ lw_tbl := lw_at lw_m1 131 rfl
theorem q153 : (Jvm.Cond.instanceMethod ({ cls := "ThreeValued", name := "askOne", desc := "(II)V" } : Jvm.MethodName)) ∈ lw_all := lw_g (lw_at lw_m1 132 rfl) rfl
theorem q154 : (Jvm.Cond.code ({ cls := "ThreeValued", name := "askOne", desc := "(II)V" } : Jvm.MethodName) prog_1_method_23_code (3 : Nat) (Option.none : Option Jvm.ClassFile.FieldType)) ∈ lw_all := lw_g (lw_at lw_m1 133 rfl) rfl
theorem q155 : (Jvm.Cond.methodLink "ThreeValued" (121 : Nat) ({ cls := "ThreeValued", name := "ask", desc := "(II)V" } : Jvm.MethodName)) ∈ lw_all := lw_g (lw_at lw_m1 134 rfl) rfl
theorem q156 : (Jvm.Cond.privateMethod ({ cls := "ThreeValued", name := "ask", desc := "(II)V" } : Jvm.MethodName)) ∈ lw_tbl := lw_at lw_m1 135 rfl
theorem q157 : (Jvm.Cond.instanceMethod ({ cls := "ThreeValued", name := "ask", desc := "(II)V" } : Jvm.MethodName)) ∈ lw_all := lw_g (lw_at lw_m1 136 rfl) rfl
theorem q158 : (Jvm.Cond.code ({ cls := "ThreeValued", name := "ask", desc := "(II)V" } : Jvm.MethodName) prog_1_method_22_code (4 : Nat) (Option.none : Option Jvm.ClassFile.FieldType)) ∈ lw_all := lw_g (lw_at lw_m1 137 rfl) rfl
theorem q159 : (Jvm.Cond.methodLink "ThreeValued" (137 : Nat) ({ cls := "ThreeValued", name := "least", desc := "()I" } : Jvm.MethodName)) ∈ lw_all := lw_g (lw_at lw_m1 138 rfl) rfl
theorem q160 : (Jvm.Cond.privateMethod ({ cls := "ThreeValued", name := "least", desc := "()I" } : Jvm.MethodName)) ∈ lw_tbl := lw_at lw_m1 139 rfl
theorem q161 : (Jvm.Cond.instanceMethod ({ cls := "ThreeValued", name := "least", desc := "()I" } : Jvm.MethodName)) ∈ lw_all := lw_g (lw_at lw_m1 140 rfl) rfl
theorem q162 : (Jvm.Cond.code ({ cls := "ThreeValued", name := "least", desc := "()I" } : Jvm.MethodName) prog_1_method_24_code (4 : Nat) (Option.some Jvm.ClassFile.FieldType.int)) ∈ lw_all := lw_g (lw_at lw_m1 141 rfl) rfl
theorem q163 : (Jvm.Cond.methodLink "ThreeValued" (124 : Nat) ({ cls := "ThreeValued", name := "meets", desc := "()Z" } : Jvm.MethodName)) ∈ lw_all := lw_g (lw_at lw_m1 142 rfl) rfl
theorem q164 : (Jvm.Cond.privateMethod ({ cls := "ThreeValued", name := "meets", desc := "()Z" } : Jvm.MethodName)) ∈ lw_tbl := lw_at lw_m1 143 rfl
theorem q165 : (Jvm.Cond.instanceMethod ({ cls := "ThreeValued", name := "meets", desc := "()Z" } : Jvm.MethodName)) ∈ lw_all := lw_g (lw_at lw_m1 144 rfl) rfl
theorem q166 : (Jvm.Cond.code ({ cls := "ThreeValued", name := "meets", desc := "()Z" } : Jvm.MethodName) prog_1_method_16_code (5 : Nat) (Option.some Jvm.ClassFile.FieldType.boolean)) ∈ lw_all := lw_g (lw_at lw_m1 145 rfl) rfl
theorem q167 : (Jvm.Cond.methodLink "ThreeValued" (97 : Nat) ({ cls := "ThreeValued", name := "demand", desc := "(II)V" } : Jvm.MethodName)) ∈ lw_all := lw_g (lw_at lw_m1 146 rfl) rfl
theorem q168 : (Jvm.Cond.privateMethod ({ cls := "ThreeValued", name := "demand", desc := "(II)V" } : Jvm.MethodName)) ∈ lw_tbl := lw_at lw_m1 147 rfl
theorem q169 : (Jvm.Cond.instanceMethod ({ cls := "ThreeValued", name := "demand", desc := "(II)V" } : Jvm.MethodName)) ∈ lw_all := lw_g (lw_at lw_m1 148 rfl) rfl
theorem q170 : (Jvm.Cond.code ({ cls := "ThreeValued", name := "demand", desc := "(II)V" } : Jvm.MethodName) prog_1_method_15_code (3 : Nat) (Option.none : Option Jvm.ClassFile.FieldType)) ∈ lw_all := lw_g (lw_at lw_m1 149 rfl) rfl
theorem q171 : (Jvm.Cond.methodLink "ThreeValued" (104 : Nat) ({ cls := "ThreeValued", name := "goOn", desc := "()I" } : Jvm.MethodName)) ∈ lw_all := lw_g (lw_at lw_m1 150 rfl) rfl
theorem q172 : (Jvm.Cond.privateMethod ({ cls := "ThreeValued", name := "goOn", desc := "()I" } : Jvm.MethodName)) ∈ lw_tbl := lw_at lw_m1 151 rfl
theorem q173 : (Jvm.Cond.instanceMethod ({ cls := "ThreeValued", name := "goOn", desc := "()I" } : Jvm.MethodName)) ∈ lw_all := lw_g (lw_at lw_m1 152 rfl) rfl
theorem q174 : (Jvm.Cond.code ({ cls := "ThreeValued", name := "goOn", desc := "()I" } : Jvm.MethodName) prog_1_method_17_code (4 : Nat) (Option.some Jvm.ClassFile.FieldType.int)) ∈ lw_all := lw_g (lw_at lw_m1 153 rfl) rfl
theorem q175 : (Jvm.Cond.methodLink "ThreeValued" (115 : Nat) ({ cls := "ThreeValued", name := "beforeNot", desc := "(I)I" } : Jvm.MethodName)) ∈ lw_all := lw_g (lw_at lw_m1 154 rfl) rfl
theorem q176 : (Jvm.Cond.privateMethod ({ cls := "ThreeValued", name := "beforeNot", desc := "(I)I" } : Jvm.MethodName)) ∈ lw_tbl := lw_at lw_m1 155 rfl
theorem q177 : (Jvm.Cond.instanceMethod ({ cls := "ThreeValued", name := "beforeNot", desc := "(I)I" } : Jvm.MethodName)) ∈ lw_all := lw_g (lw_at lw_m1 156 rfl) rfl
theorem q178 : (Jvm.Cond.code ({ cls := "ThreeValued", name := "beforeNot", desc := "(I)I" } : Jvm.MethodName) prog_1_method_18_code (5 : Nat) (Option.some Jvm.ClassFile.FieldType.int)) ∈ lw_all := lw_g (lw_at lw_m1 157 rfl) rfl
theorem q179 : (Jvm.Cond.constant "ThreeValued" (108 : Nat) (32768 : Int32)) ∈ lw_all := lw_g (lw_at lw_m1 158 rfl) rfl
theorem q180 : (Jvm.Cond.methodLink "ThreeValued" (109 : Nat) ({ cls := "ThreeValued", name := "open", desc := "(I)V" } : Jvm.MethodName)) ∈ lw_all := lw_g (lw_at lw_m1 159 rfl) rfl
theorem q181 : (Jvm.Cond.privateMethod ({ cls := "ThreeValued", name := "open", desc := "(I)V" } : Jvm.MethodName)) ∈ lw_tbl := lw_at lw_m1 160 rfl
theorem q182 : (Jvm.Cond.instanceMethod ({ cls := "ThreeValued", name := "open", desc := "(I)V" } : Jvm.MethodName)) ∈ lw_all := lw_g (lw_at lw_m1 161 rfl) rfl
theorem q183 : (Jvm.Cond.code ({ cls := "ThreeValued", name := "open", desc := "(I)V" } : Jvm.MethodName) prog_1_method_19_code (3 : Nat) (Option.none : Option Jvm.ClassFile.FieldType)) ∈ lw_all := lw_g (lw_at lw_m1 162 rfl) rfl
theorem q184 : (Jvm.Cond.methodLink "ThreeValued" (112 : Nat) ({ cls := "ThreeValued", name := "nextTurn", desc := "(I)Z" } : Jvm.MethodName)) ∈ lw_all := lw_g (lw_at lw_m1 163 rfl) rfl
theorem q185 : (Jvm.Cond.privateMethod ({ cls := "ThreeValued", name := "nextTurn", desc := "(I)Z" } : Jvm.MethodName)) ∈ lw_tbl := lw_at lw_m1 164 rfl
theorem q186 : (Jvm.Cond.instanceMethod ({ cls := "ThreeValued", name := "nextTurn", desc := "(I)Z" } : Jvm.MethodName)) ∈ lw_all := lw_g (lw_at lw_m1 165 rfl) rfl
theorem q187 : (Jvm.Cond.code ({ cls := "ThreeValued", name := "nextTurn", desc := "(I)Z" } : Jvm.MethodName) prog_1_method_20_code (5 : Nat) (Option.some Jvm.ClassFile.FieldType.boolean)) ∈ lw_all := lw_g (lw_at lw_m1 166 rfl) rfl
theorem q188 : (Jvm.Cond.methodLink "ThreeValued" (118 : Nat) ({ cls := "ThreeValued", name := "partners", desc := "(III)I" } : Jvm.MethodName)) ∈ lw_all := lw_g (lw_at lw_m1 167 rfl) rfl
theorem q189 : (Jvm.Cond.privateMethod ({ cls := "ThreeValued", name := "partners", desc := "(III)I" } : Jvm.MethodName)) ∈ lw_tbl := lw_at lw_m1 168 rfl
theorem q190 : (Jvm.Cond.instanceMethod ({ cls := "ThreeValued", name := "partners", desc := "(III)I" } : Jvm.MethodName)) ∈ lw_all := lw_g (lw_at lw_m1 169 rfl) rfl
theorem q191 : (Jvm.Cond.code ({ cls := "ThreeValued", name := "partners", desc := "(III)I" } : Jvm.MethodName) prog_1_method_21_code (7 : Nat) (Option.some Jvm.ClassFile.FieldType.int)) ∈ lw_all := lw_g (lw_at lw_m1 170 rfl) rfl
theorem q192 : (Jvm.Cond.methodLink "ThreeValued" (128 : Nat) ({ cls := "ThreeValued", name := "leastValue", desc := "(I)I" } : Jvm.MethodName)) ∈ lw_all := lw_g (lw_at lw_m1 171 rfl) rfl
theorem q193 : (Jvm.Cond.privateMethod ({ cls := "ThreeValued", name := "leastValue", desc := "(I)I" } : Jvm.MethodName)) ∈ lw_tbl := lw_at lw_m1 172 rfl
theorem q194 : (Jvm.Cond.instanceMethod ({ cls := "ThreeValued", name := "leastValue", desc := "(I)I" } : Jvm.MethodName)) ∈ lw_all := lw_g (lw_at lw_m1 173 rfl) rfl
theorem q195 : (Jvm.Cond.code ({ cls := "ThreeValued", name := "leastValue", desc := "(I)I" } : Jvm.MethodName) prog_1_method_25_code (4 : Nat) (Option.some Jvm.ClassFile.FieldType.int)) ∈ lw_all := lw_g (lw_at lw_m1 174 rfl) rfl
theorem q197 : (Jvm.Cond.instanceMethod ({ cls := "ThreeValued", name := "values", desc := "(I)I" } : Jvm.MethodName)) ∈ lw_all := lw_g (lw_at lw_m1 176 rfl) rfl
theorem q198 : (Jvm.Cond.selects "ThreeValued" ({ cls := "ThreeValued", name := "values", desc := "(I)I" } : Jvm.MethodName) ({ cls := "ThreeValued", name := "values", desc := "(I)I" } : Jvm.MethodName)) ∈ lw_all := lw_g (lw_at lw_m1 177 rfl) rfl
theorem q199 : (Jvm.Cond.code ({ cls := "ThreeValued", name := "values", desc := "(I)I" } : Jvm.MethodName) prog_1_method_28_code (4 : Nat) (Option.some Jvm.ClassFile.FieldType.int)) ∈ lw_all := lw_g (lw_at lw_m1 178 rfl) rfl
theorem q201 : (Jvm.Cond.instanceMethod ({ cls := "ThreeValued", name := "valid", desc := "(I)Z" } : Jvm.MethodName)) ∈ lw_all := lw_g (lw_at lw_m1 180 rfl) rfl
theorem q202 : (Jvm.Cond.selects "ThreeValued" ({ cls := "ThreeValued", name := "valid", desc := "(I)Z" } : Jvm.MethodName) ({ cls := "ThreeValued", name := "valid", desc := "(I)Z" } : Jvm.MethodName)) ∈ lw_all := lw_g (lw_at lw_m1 181 rfl) rfl
theorem q203 : (Jvm.Cond.code ({ cls := "ThreeValued", name := "valid", desc := "(I)Z" } : Jvm.MethodName) prog_1_method_29_code (2 : Nat) (Option.some Jvm.ClassFile.FieldType.boolean)) ∈ lw_all := lw_g (lw_at lw_m1 182 rfl) rfl
theorem q205 : (Jvm.Cond.instanceMethod ({ cls := "ThreeValued", name := "findBoth", desc := "(II)I" } : Jvm.MethodName)) ∈ lw_all := lw_g (lw_at lw_m1 184 rfl) rfl
theorem q206 : (Jvm.Cond.selects "ThreeValued" ({ cls := "ThreeValued", name := "findBoth", desc := "(II)I" } : Jvm.MethodName) ({ cls := "ThreeValued", name := "findBoth", desc := "(II)I" } : Jvm.MethodName)) ∈ lw_all := lw_g (lw_at lw_m1 185 rfl) rfl
theorem q207 : (Jvm.Cond.code ({ cls := "ThreeValued", name := "findBoth", desc := "(II)I" } : Jvm.MethodName) prog_1_method_31_code (3 : Nat) (Option.some Jvm.ClassFile.FieldType.int)) ∈ lw_all := lw_g (lw_at lw_m1 186 rfl) rfl
theorem q208 : (Jvm.Cond.methodLink "ThreeValued" (140 : Nat) ({ cls := "ThreeValued", name := "both", desc := "()Z" } : Jvm.MethodName)) ∈ lw_all := lw_g (lw_at lw_m1 187 rfl) rfl
theorem q209 : (Jvm.Cond.privateMethod ({ cls := "ThreeValued", name := "both", desc := "()Z" } : Jvm.MethodName)) ∈ lw_tbl := lw_at lw_m1 188 rfl
theorem q210 : (Jvm.Cond.instanceMethod ({ cls := "ThreeValued", name := "both", desc := "()Z" } : Jvm.MethodName)) ∈ lw_all := lw_g (lw_at lw_m1 189 rfl) rfl
theorem q211 : (Jvm.Cond.code ({ cls := "ThreeValued", name := "both", desc := "()Z" } : Jvm.MethodName) prog_1_method_30_code (1 : Nat) (Option.some Jvm.ClassFile.FieldType.boolean)) ∈ lw_all := lw_g (lw_at lw_m1 190 rfl) rfl
theorem q213 : (Jvm.Cond.instanceMethod ({ cls := "ThreeValued", name := "entails", desc := "()Z" } : Jvm.MethodName)) ∈ lw_all := lw_g (lw_at lw_m1 192 rfl) rfl
theorem q214 : (Jvm.Cond.selects "ThreeValued" ({ cls := "ThreeValued", name := "entails", desc := "()Z" } : Jvm.MethodName) ({ cls := "ThreeValued", name := "entails", desc := "()Z" } : Jvm.MethodName)) ∈ lw_all := lw_g (lw_at lw_m1 193 rfl) rfl
theorem q215 : (Jvm.Cond.code ({ cls := "ThreeValued", name := "entails", desc := "()Z" } : Jvm.MethodName) prog_1_method_33_code (1 : Nat) (Option.some Jvm.ClassFile.FieldType.boolean)) ∈ lw_all := lw_g (lw_at lw_m1 194 rfl) rfl
theorem q216 : (Jvm.Cond.methodLink "ThreeValued" (143 : Nat) ({ cls := "ThreeValued", name := "never", desc := "(II)Z" } : Jvm.MethodName)) ∈ lw_all := lw_g (lw_at lw_m1 195 rfl) rfl
theorem q217 : (Jvm.Cond.privateMethod ({ cls := "ThreeValued", name := "never", desc := "(II)Z" } : Jvm.MethodName)) ∈ lw_tbl := lw_at lw_m1 196 rfl
theorem q218 : (Jvm.Cond.instanceMethod ({ cls := "ThreeValued", name := "never", desc := "(II)Z" } : Jvm.MethodName)) ∈ lw_all := lw_g (lw_at lw_m1 197 rfl) rfl
theorem q219 : (Jvm.Cond.code ({ cls := "ThreeValued", name := "never", desc := "(II)Z" } : Jvm.MethodName) prog_1_method_32_code (3 : Nat) (Option.some Jvm.ClassFile.FieldType.boolean)) ∈ lw_all := lw_g (lw_at lw_m1 198 rfl) rfl
theorem q221 : (Jvm.Cond.instanceMethod ({ cls := "ThreeValued", name := "below", desc := "()Z" } : Jvm.MethodName)) ∈ lw_all := lw_g (lw_at lw_m1 200 rfl) rfl
theorem q222 : (Jvm.Cond.selects "ThreeValued" ({ cls := "ThreeValued", name := "below", desc := "()Z" } : Jvm.MethodName) ({ cls := "ThreeValued", name := "below", desc := "()Z" } : Jvm.MethodName)) ∈ lw_all := lw_g (lw_at lw_m1 201 rfl) rfl
theorem q223 : (Jvm.Cond.code ({ cls := "ThreeValued", name := "below", desc := "()Z" } : Jvm.MethodName) prog_1_method_34_code (1 : Nat) (Option.some Jvm.ClassFile.FieldType.boolean)) ∈ lw_all := lw_g (lw_at lw_m1 202 rfl) rfl
theorem q225 : (Jvm.Cond.instanceMethod ({ cls := "ThreeValued", name := "alike", desc := "()Z" } : Jvm.MethodName)) ∈ lw_all := lw_g (lw_at lw_m1 204 rfl) rfl
theorem q226 : (Jvm.Cond.selects "ThreeValued" ({ cls := "ThreeValued", name := "alike", desc := "()Z" } : Jvm.MethodName) ({ cls := "ThreeValued", name := "alike", desc := "()Z" } : Jvm.MethodName)) ∈ lw_all := lw_g (lw_at lw_m1 205 rfl) rfl
theorem q227 : (Jvm.Cond.code ({ cls := "ThreeValued", name := "alike", desc := "()Z" } : Jvm.MethodName) prog_1_method_35_code (1 : Nat) (Option.some Jvm.ClassFile.FieldType.boolean)) ∈ lw_all := lw_g (lw_at lw_m1 206 rfl) rfl
theorem q229 : (Jvm.Cond.instanceMethod ({ cls := "ThreeValued", name := "findApart", desc := "(II)I" } : Jvm.MethodName)) ∈ lw_all := lw_g (lw_at lw_m1 208 rfl) rfl
theorem q230 : (Jvm.Cond.selects "ThreeValued" ({ cls := "ThreeValued", name := "findApart", desc := "(II)I" } : Jvm.MethodName) ({ cls := "ThreeValued", name := "findApart", desc := "(II)I" } : Jvm.MethodName)) ∈ lw_all := lw_g (lw_at lw_m1 209 rfl) rfl
theorem q231 : (Jvm.Cond.code ({ cls := "ThreeValued", name := "findApart", desc := "(II)I" } : Jvm.MethodName) prog_1_method_36_code (6 : Nat) (Option.some Jvm.ClassFile.FieldType.int)) ∈ lw_all := lw_g (lw_at lw_m1 210 rfl) rfl
theorem in_X1 : ∀ w ∈ wsX10, w ∈ lw_all := lw_in wsX10 [52, 54, 56, 58, 60, 62, 64, 66, 68, 70, 72, 74, 76, 78, 80, 82, 84, 86, 88, 90] (by decide +kernel) (by decide +kernel)
/-! ThreeValuedModel -/
def RX2 : String := "ThreeValuedModel"
def TX2 : u_T := fun k => match k with
  | 0 => ("ThreeValuedModel", "rules", "I", false)
  | 1 => ("ThreeValuedModel", "size", "[I", false)
  | 2 => ("ThreeValuedModel", "tokens", "[I", false)
  | _ => ("ThreeValuedModel", "stack", "[I", false)
def tyX2 : Nat → FieldType := fun k => match k with
  | 0 => .int
  | 1 => .array .int
  | 2 => .array .int
  | _ => .array .int
abbrev wsX20 : List Cond := u_ws RX2 TX2 4
theorem nmX2 : ∀ a, a < 4 → ∀ b, b < 4 → a ≠ b → (TX2 a).2.1 ≠ (TX2 b).2.1 := by decide +kernel
theorem tyX2_ok : ∀ k, k < 4 → parseFieldDescriptor (TX2 k).2.2.1 = some (tyX2 k) := by decide +kernel
abbrev cX2_init : ByteArray := prog_3_method_1_code
def yX2_init : MethodName := ⟨RX2, "<init>", "(I)V"⟩
abbrev cX2_logic : ByteArray := prog_3_method_2_code
def yX2_logic : MethodName := ⟨RX2, "logic", "()I"⟩
abbrev cX2_setLogic : ByteArray := prog_3_method_3_code
def yX2_setLogic : MethodName := ⟨RX2, "setLogic", "(I)Z"⟩
abbrev cX2_feed : ByteArray := prog_3_method_4_code
def yX2_feed : MethodName := ⟨RX2, "feed", "(II)I"⟩
abbrev cX2_complete : ByteArray := prog_3_method_6_code
def yX2_complete : MethodName := ⟨RX2, "complete", "(I)Z"⟩
abbrev cX2_back : ByteArray := prog_3_method_5_code
def yX2_back : MethodName := ⟨RX2, "back", "(I)I"⟩
abbrev cX2_value : ByteArray := prog_3_method_11_code
def yX2_value : MethodName := ⟨RX2, "value", "(II)I"⟩
abbrev cX2_eval : ByteArray := prog_3_method_10_code
def yX2_eval : MethodName := ⟨RX2, "eval", "(II)I"⟩
abbrev cX2_letter : ByteArray := prog_3_method_7_code
def yX2_letter : MethodName := ⟨RX2, "letter", "(II)I"⟩
abbrev cX2_not : ByteArray := prog_3_method_8_code
def yX2_not : MethodName := ⟨RX2, "not", "(I)I"⟩
abbrev cX2_implies : ByteArray := prog_3_method_9_code
def yX2_implies : MethodName := ⟨RX2, "implies", "(II)I"⟩
abbrev cX2_find : ByteArray := prog_3_method_12_code
def yX2_find : MethodName := ⟨RX2, "find", "(II)I"⟩
abbrev cX2_values : ByteArray := prog_3_method_13_code
def yX2_values : MethodName := ⟨RX2, "values", "(I)I"⟩
abbrev cX2_valid : ByteArray := prog_3_method_14_code
def yX2_valid : MethodName := ⟨RX2, "valid", "(I)Z"⟩
abbrev cX2_findBoth : ByteArray := prog_3_method_15_code
def yX2_findBoth : MethodName := ⟨RX2, "findBoth", "(II)I"⟩
abbrev cX2_entails : ByteArray := prog_3_method_16_code
def yX2_entails : MethodName := ⟨RX2, "entails", "()Z"⟩
abbrev cX2_below : ByteArray := prog_3_method_17_code
def yX2_below : MethodName := ⟨RX2, "below", "()Z"⟩
abbrev cX2_alike : ByteArray := prog_3_method_18_code
def yX2_alike : MethodName := ⟨RX2, "alike", "()Z"⟩
abbrev cX2_findApart : ByteArray := prog_3_method_19_code
def yX2_findApart : MethodName := ⟨RX2, "findApart", "(II)I"⟩
theorem q23 : (Jvm.Cond.initialized "ThreeValuedModel") ∈ lw_all := lw_g (lw_at lw_m1 2 rfl) rfl
theorem q236 : (Jvm.Cond.instantiable "ThreeValuedModel" (4 : Nat)) ∈ lw_all := lw_g (lw_at lw_m1 215 rfl) rfl
theorem q238 : (Jvm.Cond.instanceMethod ({ cls := "ThreeValuedModel", name := "<init>", desc := "(I)V" } : Jvm.MethodName)) ∈ lw_all := lw_g (lw_at lw_m1 217 rfl) rfl
theorem q239 : (Jvm.Cond.code ({ cls := "ThreeValuedModel", name := "<init>", desc := "(I)V" } : Jvm.MethodName) prog_3_method_1_code (2 : Nat) (Option.none : Option Jvm.ClassFile.FieldType)) ∈ lw_all := lw_g (lw_at lw_m1 218 rfl) rfl
theorem q240 : (Jvm.Cond.methodLink "ThreeValuedModel" (1 : Nat) ({ cls := "java/lang/Object", name := "<init>", desc := "()V" } : Jvm.MethodName)) ∈ lw_all := lw_g (lw_at lw_m1 219 rfl) rfl
theorem q241 : (Jvm.Cond.fieldLink "ThreeValuedModel" (19 : Nat) "ThreeValuedModel" "rules" "I") ∈ lw_all := lw_g (lw_at lw_m1 220 rfl) rfl
theorem q242 : (Jvm.Cond.fieldLink "ThreeValuedModel" (7 : Nat) "ThreeValuedModel" "size" "[I") ∈ lw_all := lw_g (lw_at lw_m1 221 rfl) rfl
theorem q243 : (Jvm.Cond.fieldLink "ThreeValuedModel" (13 : Nat) "ThreeValuedModel" "tokens" "[I") ∈ lw_all := lw_g (lw_at lw_m1 222 rfl) rfl
theorem q244 : (Jvm.Cond.fieldLink "ThreeValuedModel" (16 : Nat) "ThreeValuedModel" "stack" "[I") ∈ lw_all := lw_g (lw_at lw_m1 223 rfl) rfl
theorem q245 : (Jvm.Cond.lays "ThreeValuedModel" "ThreeValuedModel" "rules" "I") ∈ lw_all := lw_g (lw_at lw_m1 224 rfl) rfl
theorem q246 : (Jvm.Cond.soleField "ThreeValuedModel" "rules") ∈ lw_all := lw_g (lw_at lw_m1 225 rfl) rfl
theorem q247 : (Jvm.Cond.lays "ThreeValuedModel" "ThreeValuedModel" "size" "[I") ∈ lw_all := lw_g (lw_at lw_m1 226 rfl) rfl
theorem q248 : (Jvm.Cond.soleField "ThreeValuedModel" "size") ∈ lw_all := lw_g (lw_at lw_m1 227 rfl) rfl
theorem q249 : (Jvm.Cond.lays "ThreeValuedModel" "ThreeValuedModel" "tokens" "[I") ∈ lw_all := lw_g (lw_at lw_m1 228 rfl) rfl
theorem q250 : (Jvm.Cond.soleField "ThreeValuedModel" "tokens") ∈ lw_all := lw_g (lw_at lw_m1 229 rfl) rfl
theorem q251 : (Jvm.Cond.lays "ThreeValuedModel" "ThreeValuedModel" "stack" "[I") ∈ lw_all := lw_g (lw_at lw_m1 230 rfl) rfl
theorem q252 : (Jvm.Cond.soleField "ThreeValuedModel" "stack") ∈ lw_all := lw_g (lw_at lw_m1 231 rfl) rfl
theorem q253 : (Jvm.Cond.superclass "ThreeValuedModel" "java/lang/Object") ∈ lw_all := lw_g (lw_at lw_m1 232 rfl) rfl
theorem q256 : (Jvm.Cond.instanceMethod ({ cls := "ThreeValuedModel", name := "logic", desc := "()I" } : Jvm.MethodName)) ∈ lw_all := lw_g (lw_at lw_m1 235 rfl) rfl
theorem q257 : (Jvm.Cond.selects "ThreeValuedModel" ({ cls := "ThreeValuedModel", name := "logic", desc := "()I" } : Jvm.MethodName) ({ cls := "ThreeValuedModel", name := "logic", desc := "()I" } : Jvm.MethodName)) ∈ lw_all := lw_g (lw_at lw_m1 236 rfl) rfl
theorem q258 : (Jvm.Cond.code ({ cls := "ThreeValuedModel", name := "logic", desc := "()I" } : Jvm.MethodName) prog_3_method_2_code (1 : Nat) (Option.some Jvm.ClassFile.FieldType.int)) ∈ lw_all := lw_g (lw_at lw_m1 237 rfl) rfl
theorem q260 : (Jvm.Cond.instanceMethod ({ cls := "ThreeValuedModel", name := "setLogic", desc := "(I)Z" } : Jvm.MethodName)) ∈ lw_all := lw_g (lw_at lw_m1 239 rfl) rfl
theorem q261 : (Jvm.Cond.selects "ThreeValuedModel" ({ cls := "ThreeValuedModel", name := "setLogic", desc := "(I)Z" } : Jvm.MethodName) ({ cls := "ThreeValuedModel", name := "setLogic", desc := "(I)Z" } : Jvm.MethodName)) ∈ lw_all := lw_g (lw_at lw_m2 0 rfl) rfl
theorem q262 : (Jvm.Cond.code ({ cls := "ThreeValuedModel", name := "setLogic", desc := "(I)Z" } : Jvm.MethodName) prog_3_method_3_code (2 : Nat) (Option.some Jvm.ClassFile.FieldType.boolean)) ∈ lw_all := lw_g (lw_at lw_m2 1 rfl) rfl
theorem q264 : (Jvm.Cond.instanceMethod ({ cls := "ThreeValuedModel", name := "feed", desc := "(II)I" } : Jvm.MethodName)) ∈ lw_all := lw_g (lw_at lw_m2 3 rfl) rfl
theorem q265 : (Jvm.Cond.selects "ThreeValuedModel" ({ cls := "ThreeValuedModel", name := "feed", desc := "(II)I" } : Jvm.MethodName) ({ cls := "ThreeValuedModel", name := "feed", desc := "(II)I" } : Jvm.MethodName)) ∈ lw_all := lw_g (lw_at lw_m2 4 rfl) rfl
theorem q266 : (Jvm.Cond.code ({ cls := "ThreeValuedModel", name := "feed", desc := "(II)I" } : Jvm.MethodName) prog_3_method_4_code (3 : Nat) (Option.some Jvm.ClassFile.FieldType.int)) ∈ lw_all := lw_g (lw_at lw_m2 5 rfl) rfl
theorem q267 : (Jvm.Cond.methodLink "ThreeValuedModel" (23 : Nat) ({ cls := "ThreeValuedModel", name := "complete", desc := "(I)Z" } : Jvm.MethodName)) ∈ lw_all := lw_g (lw_at lw_m2 6 rfl) rfl
theorem q268 : (Jvm.Cond.instanceMethod ({ cls := "ThreeValuedModel", name := "complete", desc := "(I)Z" } : Jvm.MethodName)) ∈ lw_all := lw_g (lw_at lw_m2 7 rfl) rfl
theorem q269 : (Jvm.Cond.selects "ThreeValuedModel" ({ cls := "ThreeValuedModel", name := "complete", desc := "(I)Z" } : Jvm.MethodName) ({ cls := "ThreeValuedModel", name := "complete", desc := "(I)Z" } : Jvm.MethodName)) ∈ lw_all := lw_g (lw_at lw_m2 8 rfl) rfl
theorem q270 : (Jvm.Cond.code ({ cls := "ThreeValuedModel", name := "complete", desc := "(I)Z" } : Jvm.MethodName) prog_3_method_6_code (5 : Nat) (Option.some Jvm.ClassFile.FieldType.boolean)) ∈ lw_all := lw_g (lw_at lw_m2 9 rfl) rfl
theorem q272 : (Jvm.Cond.instanceMethod ({ cls := "ThreeValuedModel", name := "back", desc := "(I)I" } : Jvm.MethodName)) ∈ lw_all := lw_g (lw_at lw_m2 11 rfl) rfl
theorem q273 : (Jvm.Cond.selects "ThreeValuedModel" ({ cls := "ThreeValuedModel", name := "back", desc := "(I)I" } : Jvm.MethodName) ({ cls := "ThreeValuedModel", name := "back", desc := "(I)I" } : Jvm.MethodName)) ∈ lw_all := lw_g (lw_at lw_m2 12 rfl) rfl
theorem q274 : (Jvm.Cond.code ({ cls := "ThreeValuedModel", name := "back", desc := "(I)I" } : Jvm.MethodName) prog_3_method_5_code (2 : Nat) (Option.some Jvm.ClassFile.FieldType.int)) ∈ lw_all := lw_g (lw_at lw_m2 13 rfl) rfl
theorem q277 : (Jvm.Cond.instanceMethod ({ cls := "ThreeValuedModel", name := "value", desc := "(II)I" } : Jvm.MethodName)) ∈ lw_all := lw_g (lw_at lw_m2 16 rfl) rfl
theorem q278 : (Jvm.Cond.selects "ThreeValuedModel" ({ cls := "ThreeValuedModel", name := "value", desc := "(II)I" } : Jvm.MethodName) ({ cls := "ThreeValuedModel", name := "value", desc := "(II)I" } : Jvm.MethodName)) ∈ lw_all := lw_g (lw_at lw_m2 17 rfl) rfl
theorem q279 : (Jvm.Cond.code ({ cls := "ThreeValuedModel", name := "value", desc := "(II)I" } : Jvm.MethodName) prog_3_method_11_code (3 : Nat) (Option.some Jvm.ClassFile.FieldType.int)) ∈ lw_all := lw_g (lw_at lw_m2 18 rfl) rfl
theorem q280 : (Jvm.Cond.methodLink "ThreeValuedModel" (38 : Nat) ({ cls := "ThreeValuedModel", name := "eval", desc := "(II)I" } : Jvm.MethodName)) ∈ lw_all := lw_g (lw_at lw_m2 19 rfl) rfl
theorem q281 : (Jvm.Cond.privateMethod ({ cls := "ThreeValuedModel", name := "eval", desc := "(II)I" } : Jvm.MethodName)) ∈ lw_tbl := lw_at lw_m2 20 rfl
theorem q282 : (Jvm.Cond.instanceMethod ({ cls := "ThreeValuedModel", name := "eval", desc := "(II)I" } : Jvm.MethodName)) ∈ lw_all := lw_g (lw_at lw_m2 21 rfl) rfl
theorem q283 : (Jvm.Cond.code ({ cls := "ThreeValuedModel", name := "eval", desc := "(II)I" } : Jvm.MethodName) prog_3_method_10_code (8 : Nat) (Option.some Jvm.ClassFile.FieldType.int)) ∈ lw_all := lw_g (lw_at lw_m2 22 rfl) rfl
theorem q284 : (Jvm.Cond.methodLink "ThreeValuedModel" (27 : Nat) ({ cls := "ThreeValuedModel", name := "letter", desc := "(II)I" } : Jvm.MethodName)) ∈ lw_all := lw_g (lw_at lw_m2 23 rfl) rfl
theorem q285 : (Jvm.Cond.privateMethod ({ cls := "ThreeValuedModel", name := "letter", desc := "(II)I" } : Jvm.MethodName)) ∈ lw_tbl := lw_at lw_m2 24 rfl
theorem q286 : (Jvm.Cond.instanceMethod ({ cls := "ThreeValuedModel", name := "letter", desc := "(II)I" } : Jvm.MethodName)) ∈ lw_all := lw_g (lw_at lw_m2 25 rfl) rfl
theorem q287 : (Jvm.Cond.code ({ cls := "ThreeValuedModel", name := "letter", desc := "(II)I" } : Jvm.MethodName) prog_3_method_7_code (3 : Nat) (Option.some Jvm.ClassFile.FieldType.int)) ∈ lw_all := lw_g (lw_at lw_m2 26 rfl) rfl
theorem q288 : (Jvm.Cond.methodLink "ThreeValuedModel" (31 : Nat) ({ cls := "ThreeValuedModel", name := "not", desc := "(I)I" } : Jvm.MethodName)) ∈ lw_all := lw_g (lw_at lw_m2 27 rfl) rfl
theorem q289 : (Jvm.Cond.privateMethod ({ cls := "ThreeValuedModel", name := "not", desc := "(I)I" } : Jvm.MethodName)) ∈ lw_tbl := lw_at lw_m2 28 rfl
theorem q290 : (Jvm.Cond.instanceMethod ({ cls := "ThreeValuedModel", name := "not", desc := "(I)I" } : Jvm.MethodName)) ∈ lw_all := lw_g (lw_at lw_m2 29 rfl) rfl
theorem q291 : (Jvm.Cond.code ({ cls := "ThreeValuedModel", name := "not", desc := "(I)I" } : Jvm.MethodName) prog_3_method_8_code (2 : Nat) (Option.some Jvm.ClassFile.FieldType.int)) ∈ lw_all := lw_g (lw_at lw_m2 30 rfl) rfl
theorem q292 : (Jvm.Cond.methodLink "ThreeValuedModel" (35 : Nat) ({ cls := "ThreeValuedModel", name := "implies", desc := "(II)I" } : Jvm.MethodName)) ∈ lw_all := lw_g (lw_at lw_m2 31 rfl) rfl
theorem q293 : (Jvm.Cond.privateMethod ({ cls := "ThreeValuedModel", name := "implies", desc := "(II)I" } : Jvm.MethodName)) ∈ lw_tbl := lw_at lw_m2 32 rfl
theorem q294 : (Jvm.Cond.instanceMethod ({ cls := "ThreeValuedModel", name := "implies", desc := "(II)I" } : Jvm.MethodName)) ∈ lw_all := lw_g (lw_at lw_m2 33 rfl) rfl
theorem q295 : (Jvm.Cond.code ({ cls := "ThreeValuedModel", name := "implies", desc := "(II)I" } : Jvm.MethodName) prog_3_method_9_code (3 : Nat) (Option.some Jvm.ClassFile.FieldType.int)) ∈ lw_all := lw_g (lw_at lw_m2 34 rfl) rfl
theorem q297 : (Jvm.Cond.instanceMethod ({ cls := "ThreeValuedModel", name := "find", desc := "(II)I" } : Jvm.MethodName)) ∈ lw_all := lw_g (lw_at lw_m2 36 rfl) rfl
theorem q298 : (Jvm.Cond.selects "ThreeValuedModel" ({ cls := "ThreeValuedModel", name := "find", desc := "(II)I" } : Jvm.MethodName) ({ cls := "ThreeValuedModel", name := "find", desc := "(II)I" } : Jvm.MethodName)) ∈ lw_all := lw_g (lw_at lw_m2 37 rfl) rfl
theorem q299 : (Jvm.Cond.code ({ cls := "ThreeValuedModel", name := "find", desc := "(II)I" } : Jvm.MethodName) prog_3_method_12_code (4 : Nat) (Option.some Jvm.ClassFile.FieldType.int)) ∈ lw_all := lw_g (lw_at lw_m2 38 rfl) rfl
theorem q301 : (Jvm.Cond.instanceMethod ({ cls := "ThreeValuedModel", name := "values", desc := "(I)I" } : Jvm.MethodName)) ∈ lw_all := lw_g (lw_at lw_m2 40 rfl) rfl
theorem q302 : (Jvm.Cond.selects "ThreeValuedModel" ({ cls := "ThreeValuedModel", name := "values", desc := "(I)I" } : Jvm.MethodName) ({ cls := "ThreeValuedModel", name := "values", desc := "(I)I" } : Jvm.MethodName)) ∈ lw_all := lw_g (lw_at lw_m2 41 rfl) rfl
theorem q303 : (Jvm.Cond.code ({ cls := "ThreeValuedModel", name := "values", desc := "(I)I" } : Jvm.MethodName) prog_3_method_13_code (4 : Nat) (Option.some Jvm.ClassFile.FieldType.int)) ∈ lw_all := lw_g (lw_at lw_m2 42 rfl) rfl
theorem q305 : (Jvm.Cond.instanceMethod ({ cls := "ThreeValuedModel", name := "valid", desc := "(I)Z" } : Jvm.MethodName)) ∈ lw_all := lw_g (lw_at lw_m2 44 rfl) rfl
theorem q306 : (Jvm.Cond.selects "ThreeValuedModel" ({ cls := "ThreeValuedModel", name := "valid", desc := "(I)Z" } : Jvm.MethodName) ({ cls := "ThreeValuedModel", name := "valid", desc := "(I)Z" } : Jvm.MethodName)) ∈ lw_all := lw_g (lw_at lw_m2 45 rfl) rfl
theorem q307 : (Jvm.Cond.code ({ cls := "ThreeValuedModel", name := "valid", desc := "(I)Z" } : Jvm.MethodName) prog_3_method_14_code (2 : Nat) (Option.some Jvm.ClassFile.FieldType.boolean)) ∈ lw_all := lw_g (lw_at lw_m2 46 rfl) rfl
theorem q308 : (Jvm.Cond.methodLink "ThreeValuedModel" (41 : Nat) ({ cls := "ThreeValuedModel", name := "values", desc := "(I)I" } : Jvm.MethodName)) ∈ lw_all := lw_g (lw_at lw_m2 47 rfl) rfl
theorem q310 : (Jvm.Cond.instanceMethod ({ cls := "ThreeValuedModel", name := "findBoth", desc := "(II)I" } : Jvm.MethodName)) ∈ lw_all := lw_g (lw_at lw_m2 49 rfl) rfl
theorem q311 : (Jvm.Cond.selects "ThreeValuedModel" ({ cls := "ThreeValuedModel", name := "findBoth", desc := "(II)I" } : Jvm.MethodName) ({ cls := "ThreeValuedModel", name := "findBoth", desc := "(II)I" } : Jvm.MethodName)) ∈ lw_all := lw_g (lw_at lw_m2 50 rfl) rfl
theorem q312 : (Jvm.Cond.code ({ cls := "ThreeValuedModel", name := "findBoth", desc := "(II)I" } : Jvm.MethodName) prog_3_method_15_code (4 : Nat) (Option.some Jvm.ClassFile.FieldType.int)) ∈ lw_all := lw_g (lw_at lw_m2 51 rfl) rfl
theorem q314 : (Jvm.Cond.instanceMethod ({ cls := "ThreeValuedModel", name := "entails", desc := "()Z" } : Jvm.MethodName)) ∈ lw_all := lw_g (lw_at lw_m2 53 rfl) rfl
theorem q315 : (Jvm.Cond.selects "ThreeValuedModel" ({ cls := "ThreeValuedModel", name := "entails", desc := "()Z" } : Jvm.MethodName) ({ cls := "ThreeValuedModel", name := "entails", desc := "()Z" } : Jvm.MethodName)) ∈ lw_all := lw_g (lw_at lw_m2 54 rfl) rfl
theorem q316 : (Jvm.Cond.code ({ cls := "ThreeValuedModel", name := "entails", desc := "()Z" } : Jvm.MethodName) prog_3_method_16_code (3 : Nat) (Option.some Jvm.ClassFile.FieldType.boolean)) ∈ lw_all := lw_g (lw_at lw_m2 55 rfl) rfl
theorem q318 : (Jvm.Cond.instanceMethod ({ cls := "ThreeValuedModel", name := "below", desc := "()Z" } : Jvm.MethodName)) ∈ lw_all := lw_g (lw_at lw_m2 57 rfl) rfl
theorem q319 : (Jvm.Cond.selects "ThreeValuedModel" ({ cls := "ThreeValuedModel", name := "below", desc := "()Z" } : Jvm.MethodName) ({ cls := "ThreeValuedModel", name := "below", desc := "()Z" } : Jvm.MethodName)) ∈ lw_all := lw_g (lw_at lw_m2 58 rfl) rfl
theorem q320 : (Jvm.Cond.code ({ cls := "ThreeValuedModel", name := "below", desc := "()Z" } : Jvm.MethodName) prog_3_method_17_code (3 : Nat) (Option.some Jvm.ClassFile.FieldType.boolean)) ∈ lw_all := lw_g (lw_at lw_m2 59 rfl) rfl
theorem q322 : (Jvm.Cond.instanceMethod ({ cls := "ThreeValuedModel", name := "alike", desc := "()Z" } : Jvm.MethodName)) ∈ lw_all := lw_g (lw_at lw_m2 61 rfl) rfl
theorem q323 : (Jvm.Cond.selects "ThreeValuedModel" ({ cls := "ThreeValuedModel", name := "alike", desc := "()Z" } : Jvm.MethodName) ({ cls := "ThreeValuedModel", name := "alike", desc := "()Z" } : Jvm.MethodName)) ∈ lw_all := lw_g (lw_at lw_m2 62 rfl) rfl
theorem q324 : (Jvm.Cond.code ({ cls := "ThreeValuedModel", name := "alike", desc := "()Z" } : Jvm.MethodName) prog_3_method_18_code (3 : Nat) (Option.some Jvm.ClassFile.FieldType.boolean)) ∈ lw_all := lw_g (lw_at lw_m2 63 rfl) rfl
theorem q326 : (Jvm.Cond.instanceMethod ({ cls := "ThreeValuedModel", name := "findApart", desc := "(II)I" } : Jvm.MethodName)) ∈ lw_all := lw_g (lw_at lw_m2 65 rfl) rfl
theorem q327 : (Jvm.Cond.selects "ThreeValuedModel" ({ cls := "ThreeValuedModel", name := "findApart", desc := "(II)I" } : Jvm.MethodName) ({ cls := "ThreeValuedModel", name := "findApart", desc := "(II)I" } : Jvm.MethodName)) ∈ lw_all := lw_g (lw_at lw_m2 66 rfl) rfl
theorem q328 : (Jvm.Cond.code ({ cls := "ThreeValuedModel", name := "findApart", desc := "(II)I" } : Jvm.MethodName) prog_3_method_19_code (4 : Nat) (Option.some Jvm.ClassFile.FieldType.int)) ∈ lw_all := lw_g (lw_at lw_m2 67 rfl) rfl
theorem in_X2 : ∀ w ∈ wsX20, w ∈ lw_all := lw_in wsX20 [245, 247, 249, 251] (by decide +kernel) (by decide +kernel)
/-! the law's own entry -/
abbrev cL_law : ByteArray := code
end
section
set_option maxRecDepth 100000
theorem dX1_init_0 : decode cX1_init 0 = .ok (.aload_n 0, 1) := by decide +kernel
theorem dX1_init_1 : decode cX1_init 1 = .ok (.invokespecial 1, 3) := by decide +kernel
theorem dX1_init_4 : decode cX1_init 4 = .ok (.aload_n 0, 1) := by decide +kernel
theorem dX1_init_5 : decode cX1_init 5 = .ok (.bipush 18, 2) := by decide +kernel
theorem dX1_init_7 : decode cX1_init 7 = .ok (.newarray .byte, 2) := by decide +kernel
theorem dX1_init_9 : decode cX1_init 9 = .ok (.putfield 7, 3) := by decide +kernel
theorem dX1_init_12 : decode cX1_init 12 = .ok (.aload_n 0, 1) := by decide +kernel
theorem dX1_init_13 : decode cX1_init 13 = .ok (.iconst 2, 1) := by decide +kernel
theorem dX1_init_14 : decode cX1_init 14 = .ok (.newarray .byte, 2) := by decide +kernel
theorem dX1_init_16 : decode cX1_init 16 = .ok (.putfield 13, 3) := by decide +kernel
theorem dX1_init_19 : decode cX1_init 19 = .ok (.aload_n 0, 1) := by decide +kernel
theorem dX1_init_20 : decode cX1_init 20 = .ok (.bipush 18, 2) := by decide +kernel
theorem dX1_init_22 : decode cX1_init 22 = .ok (.newarray .byte, 2) := by decide +kernel
theorem dX1_init_24 : decode cX1_init 24 = .ok (.putfield 16, 3) := by decide +kernel
theorem dX1_init_27 : decode cX1_init 27 = .ok (.aload_n 0, 1) := by decide +kernel
theorem dX1_init_28 : decode cX1_init 28 = .ok (.bipush 10, 2) := by decide +kernel
theorem dX1_init_30 : decode cX1_init 30 = .ok (.newarray .byte, 2) := by decide +kernel
theorem dX1_init_32 : decode cX1_init 32 = .ok (.putfield 19, 3) := by decide +kernel
theorem dX1_init_35 : decode cX1_init 35 = .ok (.aload_n 0, 1) := by decide +kernel
theorem dX1_init_36 : decode cX1_init 36 = .ok (.bipush 10, 2) := by decide +kernel
theorem dX1_init_38 : decode cX1_init 38 = .ok (.newarray .byte, 2) := by decide +kernel
theorem dX1_init_40 : decode cX1_init 40 = .ok (.putfield 22, 3) := by decide +kernel
theorem dX1_init_43 : decode cX1_init 43 = .ok (.aload_n 0, 1) := by decide +kernel
theorem dX1_init_44 : decode cX1_init 44 = .ok (.bipush 32, 2) := by decide +kernel
theorem dX1_init_46 : decode cX1_init 46 = .ok (.newarray .byte, 2) := by decide +kernel
theorem dX1_init_48 : decode cX1_init 48 = .ok (.putfield 25, 3) := by decide +kernel
theorem dX1_init_51 : decode cX1_init 51 = .ok (.aload_n 0, 1) := by decide +kernel
theorem dX1_init_52 : decode cX1_init 52 = .ok (.bipush 32, 2) := by decide +kernel
theorem dX1_init_54 : decode cX1_init 54 = .ok (.newarray .byte, 2) := by decide +kernel
theorem dX1_init_56 : decode cX1_init 56 = .ok (.putfield 28, 3) := by decide +kernel
theorem dX1_init_59 : decode cX1_init 59 = .ok (.aload_n 0, 1) := by decide +kernel
theorem dX1_init_60 : decode cX1_init 60 = .ok (.iconst 4, 1) := by decide +kernel
theorem dX1_init_61 : decode cX1_init 61 = .ok (.newarray .byte, 2) := by decide +kernel
theorem dX1_init_63 : decode cX1_init 63 = .ok (.putfield 31, 3) := by decide +kernel
theorem dX1_init_66 : decode cX1_init 66 = .ok (.aload_n 0, 1) := by decide +kernel
theorem dX1_init_67 : decode cX1_init 67 = .ok (.bipush 12, 2) := by decide +kernel
theorem dX1_init_69 : decode cX1_init 69 = .ok (.newarray .byte, 2) := by decide +kernel
theorem dX1_init_71 : decode cX1_init 71 = .ok (.putfield 34, 3) := by decide +kernel
theorem dX1_init_74 : decode cX1_init 74 = .ok (.aload_n 0, 1) := by decide +kernel
theorem dX1_init_75 : decode cX1_init 75 = .ok (.bipush 12, 2) := by decide +kernel
theorem dX1_init_77 : decode cX1_init 77 = .ok (.newarray .byte, 2) := by decide +kernel
theorem dX1_init_79 : decode cX1_init 79 = .ok (.putfield 37, 3) := by decide +kernel
theorem dX1_init_82 : decode cX1_init 82 = .ok (.aload_n 0, 1) := by decide +kernel
theorem dX1_init_83 : decode cX1_init 83 = .ok (.bipush 48, 2) := by decide +kernel
theorem dX1_init_85 : decode cX1_init 85 = .ok (.newarray .byte, 2) := by decide +kernel
theorem dX1_init_87 : decode cX1_init 87 = .ok (.putfield 40, 3) := by decide +kernel
theorem dX1_init_90 : decode cX1_init 90 = .ok (.aload_n 0, 1) := by decide +kernel
theorem dX1_init_91 : decode cX1_init 91 = .ok (.bipush 12, 2) := by decide +kernel
theorem dX1_init_93 : decode cX1_init 93 = .ok (.newarray .byte, 2) := by decide +kernel
theorem dX1_init_95 : decode cX1_init 95 = .ok (.putfield 43, 3) := by decide +kernel
theorem dX1_init_98 : decode cX1_init 98 = .ok (.aload_n 0, 1) := by decide +kernel
theorem dX1_init_99 : decode cX1_init 99 = .ok (.iconst 4, 1) := by decide +kernel
theorem dX1_init_100 : decode cX1_init 100 = .ok (.newarray .byte, 2) := by decide +kernel
theorem dX1_init_102 : decode cX1_init 102 = .ok (.putfield 46, 3) := by decide +kernel
theorem dX1_init_105 : decode cX1_init 105 = .ok (.aload_n 0, 1) := by decide +kernel
theorem dX1_init_106 : decode cX1_init 106 = .ok (.bipush 18, 2) := by decide +kernel
theorem dX1_init_108 : decode cX1_init 108 = .ok (.newarray .byte, 2) := by decide +kernel
theorem dX1_init_110 : decode cX1_init 110 = .ok (.putfield 49, 3) := by decide +kernel
theorem dX1_init_113 : decode cX1_init 113 = .ok (.aload_n 0, 1) := by decide +kernel
theorem dX1_init_114 : decode cX1_init 114 = .ok (.iload_n 1, 1) := by decide +kernel
theorem dX1_init_115 : decode cX1_init 115 = .ok (.ifCond .ge 7, 3) := by decide +kernel
theorem dX1_init_118 : decode cX1_init 118 = .ok (.iconst 0, 1) := by decide +kernel
theorem dX1_init_119 : decode cX1_init 119 = .ok (.goto 13, 3) := by decide +kernel
theorem dX1_init_122 : decode cX1_init 122 = .ok (.iload_n 1, 1) := by decide +kernel
theorem dX1_init_123 : decode cX1_init 123 = .ok (.iconst 2, 1) := by decide +kernel
theorem dX1_init_124 : decode cX1_init 124 = .ok (.if_icmp .le 7, 3) := by decide +kernel
theorem dX1_init_127 : decode cX1_init 127 = .ok (.iconst 2, 1) := by decide +kernel
theorem dX1_init_128 : decode cX1_init 128 = .ok (.goto 4, 3) := by decide +kernel
theorem dX1_init_131 : decode cX1_init 131 = .ok (.iload_n 1, 1) := by decide +kernel
theorem dX1_init_132 : decode cX1_init 132 = .ok (.putfield 52, 3) := by decide +kernel
theorem dX1_init_135 : decode cX1_init 135 = .ok (.return_, 1) := by decide +kernel
theorem dX1_logic_0 : decode cX1_logic 0 = .ok (.aload_n 0, 1) := by decide +kernel
theorem dX1_logic_1 : decode cX1_logic 1 = .ok (.getfield 52, 3) := by decide +kernel
theorem dX1_logic_4 : decode cX1_logic 4 = .ok (.ireturn, 1) := by decide +kernel
theorem dX1_setLogic_0 : decode cX1_setLogic 0 = .ok (.iload_n 1, 1) := by decide +kernel
theorem dX1_setLogic_1 : decode cX1_setLogic 1 = .ok (.ifCond .lt 8, 3) := by decide +kernel
theorem dX1_setLogic_4 : decode cX1_setLogic 4 = .ok (.iload_n 1, 1) := by decide +kernel
theorem dX1_setLogic_5 : decode cX1_setLogic 5 = .ok (.iconst 2, 1) := by decide +kernel
theorem dX1_setLogic_6 : decode cX1_setLogic 6 = .ok (.if_icmp .le 5, 3) := by decide +kernel
theorem dX1_setLogic_9 : decode cX1_setLogic 9 = .ok (.iconst 0, 1) := by decide +kernel
theorem dX1_setLogic_10 : decode cX1_setLogic 10 = .ok (.ireturn, 1) := by decide +kernel
theorem dX1_setLogic_11 : decode cX1_setLogic 11 = .ok (.aload_n 0, 1) := by decide +kernel
theorem dX1_setLogic_12 : decode cX1_setLogic 12 = .ok (.iload_n 1, 1) := by decide +kernel
theorem dX1_setLogic_13 : decode cX1_setLogic 13 = .ok (.putfield 52, 3) := by decide +kernel
theorem dX1_setLogic_16 : decode cX1_setLogic 16 = .ok (.iconst 1, 1) := by decide +kernel
theorem dX1_setLogic_17 : decode cX1_setLogic 17 = .ok (.ireturn, 1) := by decide +kernel
theorem dX1_feed_0 : decode cX1_feed 0 = .ok (.iload_n 1, 1) := by decide +kernel
theorem dX1_feed_1 : decode cX1_feed 1 = .ok (.invokestatic 56, 3) := by decide +kernel
theorem dX1_feed_4 : decode cX1_feed 4 = .ok (.ifCond .eq 32, 3) := by decide +kernel
theorem dX1_feed_7 : decode cX1_feed 7 = .ok (.iload_n 2, 1) := by decide +kernel
theorem dX1_feed_8 : decode cX1_feed 8 = .ok (.ifCond .lt 28, 3) := by decide +kernel
theorem dX1_feed_11 : decode cX1_feed 11 = .ok (.iload_n 2, 1) := by decide +kernel
theorem dX1_feed_12 : decode cX1_feed 12 = .ok (.bipush 7, 2) := by decide +kernel
theorem dX1_feed_14 : decode cX1_feed 14 = .ok (.if_icmp .gt 22, 3) := by decide +kernel
theorem dX1_feed_17 : decode cX1_feed 17 = .ok (.aload_n 0, 1) := by decide +kernel
theorem dX1_feed_18 : decode cX1_feed 18 = .ok (.getfield 13, 3) := by decide +kernel
theorem dX1_feed_21 : decode cX1_feed 21 = .ok (.iload_n 1, 1) := by decide +kernel
theorem dX1_feed_22 : decode cX1_feed 22 = .ok (.baload, 1) := by decide +kernel
theorem dX1_feed_23 : decode cX1_feed 23 = .ok (.bipush 9, 2) := by decide +kernel
theorem dX1_feed_25 : decode cX1_feed 25 = .ok (.if_icmp .ge 11, 3) := by decide +kernel
theorem dX1_feed_28 : decode cX1_feed 28 = .ok (.aload_n 0, 1) := by decide +kernel
theorem dX1_feed_29 : decode cX1_feed 29 = .ok (.iload_n 1, 1) := by decide +kernel
theorem dX1_feed_30 : decode cX1_feed 30 = .ok (.invokevirtual 60, 3) := by decide +kernel
theorem dX1_feed_33 : decode cX1_feed 33 = .ok (.ifCond .eq 5, 3) := by decide +kernel
theorem dX1_feed_36 : decode cX1_feed 36 = .ok (.iconst (-1), 1) := by decide +kernel
theorem dX1_feed_37 : decode cX1_feed 37 = .ok (.ireturn, 1) := by decide +kernel
theorem dX1_feed_38 : decode cX1_feed 38 = .ok (.aload_n 0, 1) := by decide +kernel
theorem dX1_feed_39 : decode cX1_feed 39 = .ok (.getfield 7, 3) := by decide +kernel
theorem dX1_feed_42 : decode cX1_feed 42 = .ok (.iload_n 1, 1) := by decide +kernel
theorem dX1_feed_43 : decode cX1_feed 43 = .ok (.bipush 9, 2) := by decide +kernel
theorem dX1_feed_45 : decode cX1_feed 45 = .ok (.imul, 1) := by decide +kernel
theorem dX1_feed_46 : decode cX1_feed 46 = .ok (.aload_n 0, 1) := by decide +kernel
theorem dX1_feed_47 : decode cX1_feed 47 = .ok (.getfield 13, 3) := by decide +kernel
theorem dX1_feed_50 : decode cX1_feed 50 = .ok (.iload_n 1, 1) := by decide +kernel
theorem dX1_feed_51 : decode cX1_feed 51 = .ok (.baload, 1) := by decide +kernel
theorem dX1_feed_52 : decode cX1_feed 52 = .ok (.iadd, 1) := by decide +kernel
theorem dX1_feed_53 : decode cX1_feed 53 = .ok (.iload_n 2, 1) := by decide +kernel
theorem dX1_feed_54 : decode cX1_feed 54 = .ok (.i2b, 1) := by decide +kernel
theorem dX1_feed_55 : decode cX1_feed 55 = .ok (.bastore, 1) := by decide +kernel
theorem dX1_feed_56 : decode cX1_feed 56 = .ok (.aload_n 0, 1) := by decide +kernel
theorem dX1_feed_57 : decode cX1_feed 57 = .ok (.getfield 13, 3) := by decide +kernel
theorem dX1_feed_60 : decode cX1_feed 60 = .ok (.iload_n 1, 1) := by decide +kernel
theorem dX1_feed_61 : decode cX1_feed 61 = .ok (.dup2, 1) := by decide +kernel
theorem dX1_feed_62 : decode cX1_feed 62 = .ok (.baload, 1) := by decide +kernel
theorem dX1_feed_63 : decode cX1_feed 63 = .ok (.iconst 1, 1) := by decide +kernel
theorem dX1_feed_64 : decode cX1_feed 64 = .ok (.iadd, 1) := by decide +kernel
theorem dX1_feed_65 : decode cX1_feed 65 = .ok (.i2b, 1) := by decide +kernel
theorem dX1_feed_66 : decode cX1_feed 66 = .ok (.bastore, 1) := by decide +kernel
theorem dX1_feed_67 : decode cX1_feed 67 = .ok (.aload_n 0, 1) := by decide +kernel
theorem dX1_feed_68 : decode cX1_feed 68 = .ok (.getfield 13, 3) := by decide +kernel
theorem dX1_feed_71 : decode cX1_feed 71 = .ok (.iload_n 1, 1) := by decide +kernel
theorem dX1_feed_72 : decode cX1_feed 72 = .ok (.baload, 1) := by decide +kernel
theorem dX1_feed_73 : decode cX1_feed 73 = .ok (.ireturn, 1) := by decide +kernel
theorem dX1_isFormula_0 : decode cX1_isFormula 0 = .ok (.iload_n 0, 1) := by decide +kernel
theorem dX1_isFormula_1 : decode cX1_isFormula 1 = .ok (.ifCond .eq 8, 3) := by decide +kernel
theorem dX1_isFormula_4 : decode cX1_isFormula 4 = .ok (.iload_n 0, 1) := by decide +kernel
theorem dX1_isFormula_5 : decode cX1_isFormula 5 = .ok (.iconst 1, 1) := by decide +kernel
theorem dX1_isFormula_6 : decode cX1_isFormula 6 = .ok (.if_icmp .ne 7, 3) := by decide +kernel
theorem dX1_isFormula_9 : decode cX1_isFormula 9 = .ok (.iconst 1, 1) := by decide +kernel
theorem dX1_isFormula_10 : decode cX1_isFormula 10 = .ok (.goto 4, 3) := by decide +kernel
theorem dX1_isFormula_13 : decode cX1_isFormula 13 = .ok (.iconst 0, 1) := by decide +kernel
theorem dX1_isFormula_14 : decode cX1_isFormula 14 = .ok (.ireturn, 1) := by decide +kernel
theorem dX1_complete_0 : decode cX1_complete 0 = .ok (.iload_n 1, 1) := by decide +kernel
theorem dX1_complete_1 : decode cX1_complete 1 = .ok (.invokestatic 56, 3) := by decide +kernel
theorem dX1_complete_4 : decode cX1_complete 4 = .ok (.ifCond .ne 5, 3) := by decide +kernel
theorem dX1_complete_7 : decode cX1_complete 7 = .ok (.iconst 0, 1) := by decide +kernel
theorem dX1_complete_8 : decode cX1_complete 8 = .ok (.ireturn, 1) := by decide +kernel
theorem dX1_complete_9 : decode cX1_complete 9 = .ok (.aload_n 0, 1) := by decide +kernel
theorem dX1_complete_10 : decode cX1_complete 10 = .ok (.iload_n 1, 1) := by decide +kernel
theorem dX1_complete_11 : decode cX1_complete 11 = .ok (.invokevirtual 63, 3) := by decide +kernel
theorem dX1_complete_14 : decode cX1_complete 14 = .ok (.aload_n 0, 1) := by decide +kernel
theorem dX1_complete_15 : decode cX1_complete 15 = .ok (.getfield 13, 3) := by decide +kernel
theorem dX1_complete_18 : decode cX1_complete 18 = .ok (.iload_n 1, 1) := by decide +kernel
theorem dX1_complete_19 : decode cX1_complete 19 = .ok (.baload, 1) := by decide +kernel
theorem dX1_complete_20 : decode cX1_complete 20 = .ok (.ifCond .le 14, 3) := by decide +kernel
theorem dX1_complete_23 : decode cX1_complete 23 = .ok (.aload_n 0, 1) := by decide +kernel
theorem dX1_complete_24 : decode cX1_complete 24 = .ok (.getfield 67, 3) := by decide +kernel
theorem dX1_complete_27 : decode cX1_complete 27 = .ok (.ifCond .ne 7, 3) := by decide +kernel
theorem dX1_complete_30 : decode cX1_complete 30 = .ok (.iconst 1, 1) := by decide +kernel
theorem dX1_complete_31 : decode cX1_complete 31 = .ok (.goto 4, 3) := by decide +kernel
theorem dX1_complete_34 : decode cX1_complete 34 = .ok (.iconst 0, 1) := by decide +kernel
theorem dX1_complete_35 : decode cX1_complete 35 = .ok (.ireturn, 1) := by decide +kernel
theorem dX1_read_0 : decode cX1_read 0 = .ok (.aload_n 0, 1) := by decide +kernel
theorem dX1_read_1 : decode cX1_read 1 = .ok (.iconst 0, 1) := by decide +kernel
theorem dX1_read_2 : decode cX1_read 2 = .ok (.putfield 67, 3) := by decide +kernel
theorem dX1_read_5 : decode cX1_read 5 = .ok (.iconst 0, 1) := by decide +kernel
theorem dX1_read_6 : decode cX1_read 6 = .ok (.istore_n 2, 1) := by decide +kernel
theorem dX1_read_7 : decode cX1_read 7 = .ok (.iload_n 2, 1) := by decide +kernel
theorem dX1_read_8 : decode cX1_read 8 = .ok (.aload_n 0, 1) := by decide +kernel
theorem dX1_read_9 : decode cX1_read 9 = .ok (.getfield 13, 3) := by decide +kernel
theorem dX1_read_12 : decode cX1_read 12 = .ok (.iload_n 1, 1) := by decide +kernel
theorem dX1_read_13 : decode cX1_read 13 = .ok (.baload, 1) := by decide +kernel
theorem dX1_read_14 : decode cX1_read 14 = .ok (.if_icmp .ge 77, 3) := by decide +kernel
theorem dX1_read_17 : decode cX1_read 17 = .ok (.iload_n 1, 1) := by decide +kernel
theorem dX1_read_18 : decode cX1_read 18 = .ok (.bipush 9, 2) := by decide +kernel
theorem dX1_read_20 : decode cX1_read 20 = .ok (.imul, 1) := by decide +kernel
theorem dX1_read_21 : decode cX1_read 21 = .ok (.iload_n 2, 1) := by decide +kernel
theorem dX1_read_22 : decode cX1_read 22 = .ok (.iadd, 1) := by decide +kernel
theorem dX1_read_23 : decode cX1_read 23 = .ok (.istore_n 3, 1) := by decide +kernel
theorem dX1_read_24 : decode cX1_read 24 = .ok (.aload_n 0, 1) := by decide +kernel
theorem dX1_read_25 : decode cX1_read 25 = .ok (.getfield 67, 3) := by decide +kernel
theorem dX1_read_28 : decode cX1_read 28 = .ok (.ifCond .le 8, 3) := by decide +kernel
theorem dX1_read_31 : decode cX1_read 31 = .ok (.aload_n 0, 1) := by decide +kernel
theorem dX1_read_32 : decode cX1_read 32 = .ok (.iload_n 3, 1) := by decide +kernel
theorem dX1_read_33 : decode cX1_read 33 = .ok (.invokevirtual 70, 3) := by decide +kernel
theorem dX1_read_36 : decode cX1_read 36 = .ok (.aload_n 0, 1) := by decide +kernel
theorem dX1_read_37 : decode cX1_read 37 = .ok (.getfield 7, 3) := by decide +kernel
theorem dX1_read_40 : decode cX1_read 40 = .ok (.iload_n 3, 1) := by decide +kernel
theorem dX1_read_41 : decode cX1_read 41 = .ok (.baload, 1) := by decide +kernel
theorem dX1_read_42 : decode cX1_read 42 = .ok (.invokestatic 73, 3) := by decide +kernel
theorem dX1_read_45 : decode cX1_read 45 = .ok (.istore 4, 2) := by decide +kernel
theorem dX1_read_47 : decode cX1_read 47 = .ok (.iload 4, 2) := by decide +kernel
theorem dX1_read_49 : decode cX1_read 49 = .ok (.ifCond .le 36, 3) := by decide +kernel
theorem dX1_read_52 : decode cX1_read 52 = .ok (.aload_n 0, 1) := by decide +kernel
theorem dX1_read_53 : decode cX1_read 53 = .ok (.getfield 19, 3) := by decide +kernel
theorem dX1_read_56 : decode cX1_read 56 = .ok (.aload_n 0, 1) := by decide +kernel
theorem dX1_read_57 : decode cX1_read 57 = .ok (.getfield 67, 3) := by decide +kernel
theorem dX1_read_60 : decode cX1_read 60 = .ok (.iload_n 3, 1) := by decide +kernel
theorem dX1_read_61 : decode cX1_read 61 = .ok (.i2b, 1) := by decide +kernel
theorem dX1_read_62 : decode cX1_read 62 = .ok (.bastore, 1) := by decide +kernel
theorem dX1_read_63 : decode cX1_read 63 = .ok (.aload_n 0, 1) := by decide +kernel
theorem dX1_read_64 : decode cX1_read 64 = .ok (.getfield 22, 3) := by decide +kernel
theorem dX1_read_67 : decode cX1_read 67 = .ok (.aload_n 0, 1) := by decide +kernel
theorem dX1_read_68 : decode cX1_read 68 = .ok (.getfield 67, 3) := by decide +kernel
theorem dX1_read_71 : decode cX1_read 71 = .ok (.iload 4, 2) := by decide +kernel
theorem dX1_read_73 : decode cX1_read 73 = .ok (.i2b, 1) := by decide +kernel
theorem dX1_read_74 : decode cX1_read 74 = .ok (.bastore, 1) := by decide +kernel
theorem dX1_read_75 : decode cX1_read 75 = .ok (.aload_n 0, 1) := by decide +kernel
theorem dX1_read_76 : decode cX1_read 76 = .ok (.dup, 1) := by decide +kernel
theorem dX1_read_77 : decode cX1_read 77 = .ok (.getfield 67, 3) := by decide +kernel
theorem dX1_read_80 : decode cX1_read 80 = .ok (.iconst 1, 1) := by decide +kernel
theorem dX1_read_81 : decode cX1_read 81 = .ok (.iadd, 1) := by decide +kernel
theorem dX1_read_82 : decode cX1_read 82 = .ok (.putfield 67, 3) := by decide +kernel
theorem dX1_read_85 : decode cX1_read 85 = .ok (.iinc 2 1, 3) := by decide +kernel
theorem dX1_read_88 : decode cX1_read 88 = .ok (.goto (-81), 3) := by decide +kernel
theorem dX1_read_91 : decode cX1_read 91 = .ok (.return_, 1) := by decide +kernel
theorem dX1_attach_0 : decode cX1_attach 0 = .ok (.aload_n 0, 1) := by decide +kernel
theorem dX1_attach_1 : decode cX1_attach 1 = .ok (.getfield 67, 3) := by decide +kernel
theorem dX1_attach_4 : decode cX1_attach 4 = .ok (.iconst 1, 1) := by decide +kernel
theorem dX1_attach_5 : decode cX1_attach 5 = .ok (.isub, 1) := by decide +kernel
theorem dX1_attach_6 : decode cX1_attach 6 = .ok (.istore_n 2, 1) := by decide +kernel
theorem dX1_attach_7 : decode cX1_attach 7 = .ok (.iload_n 1, 1) := by decide +kernel
theorem dX1_attach_8 : decode cX1_attach 8 = .ok (.aload_n 0, 1) := by decide +kernel
theorem dX1_attach_9 : decode cX1_attach 9 = .ok (.getfield 19, 3) := by decide +kernel
theorem dX1_attach_12 : decode cX1_attach 12 = .ok (.iload_n 2, 1) := by decide +kernel
theorem dX1_attach_13 : decode cX1_attach 13 = .ok (.baload, 1) := by decide +kernel
theorem dX1_attach_14 : decode cX1_attach 14 = .ok (.iconst 1, 1) := by decide +kernel
theorem dX1_attach_15 : decode cX1_attach 15 = .ok (.iadd, 1) := by decide +kernel
theorem dX1_attach_16 : decode cX1_attach 16 = .ok (.if_icmp .eq 16, 3) := by decide +kernel
theorem dX1_attach_19 : decode cX1_attach 19 = .ok (.aload_n 0, 1) := by decide +kernel
theorem dX1_attach_20 : decode cX1_attach 20 = .ok (.getfield 16, 3) := by decide +kernel
theorem dX1_attach_23 : decode cX1_attach 23 = .ok (.aload_n 0, 1) := by decide +kernel
theorem dX1_attach_24 : decode cX1_attach 24 = .ok (.getfield 19, 3) := by decide +kernel
theorem dX1_attach_27 : decode cX1_attach 27 = .ok (.iload_n 2, 1) := by decide +kernel
theorem dX1_attach_28 : decode cX1_attach 28 = .ok (.baload, 1) := by decide +kernel
theorem dX1_attach_29 : decode cX1_attach 29 = .ok (.iload_n 1, 1) := by decide +kernel
theorem dX1_attach_30 : decode cX1_attach 30 = .ok (.i2b, 1) := by decide +kernel
theorem dX1_attach_31 : decode cX1_attach 31 = .ok (.bastore, 1) := by decide +kernel
theorem dX1_attach_32 : decode cX1_attach 32 = .ok (.aload_n 0, 1) := by decide +kernel
theorem dX1_attach_33 : decode cX1_attach 33 = .ok (.getfield 22, 3) := by decide +kernel
theorem dX1_attach_36 : decode cX1_attach 36 = .ok (.iload_n 2, 1) := by decide +kernel
theorem dX1_attach_37 : decode cX1_attach 37 = .ok (.dup2, 1) := by decide +kernel
theorem dX1_attach_38 : decode cX1_attach 38 = .ok (.baload, 1) := by decide +kernel
theorem dX1_attach_39 : decode cX1_attach 39 = .ok (.iconst 1, 1) := by decide +kernel
theorem dX1_attach_40 : decode cX1_attach 40 = .ok (.isub, 1) := by decide +kernel
theorem dX1_attach_41 : decode cX1_attach 41 = .ok (.i2b, 1) := by decide +kernel
theorem dX1_attach_42 : decode cX1_attach 42 = .ok (.bastore, 1) := by decide +kernel
theorem dX1_attach_43 : decode cX1_attach 43 = .ok (.aload_n 0, 1) := by decide +kernel
theorem dX1_attach_44 : decode cX1_attach 44 = .ok (.getfield 22, 3) := by decide +kernel
theorem dX1_attach_47 : decode cX1_attach 47 = .ok (.iload_n 2, 1) := by decide +kernel
theorem dX1_attach_48 : decode cX1_attach 48 = .ok (.baload, 1) := by decide +kernel
theorem dX1_attach_49 : decode cX1_attach 49 = .ok (.ifCond .ne 13, 3) := by decide +kernel
theorem dX1_attach_52 : decode cX1_attach 52 = .ok (.aload_n 0, 1) := by decide +kernel
theorem dX1_attach_53 : decode cX1_attach 53 = .ok (.dup, 1) := by decide +kernel
theorem dX1_attach_54 : decode cX1_attach 54 = .ok (.getfield 67, 3) := by decide +kernel
theorem dX1_attach_57 : decode cX1_attach 57 = .ok (.iconst 1, 1) := by decide +kernel
theorem dX1_attach_58 : decode cX1_attach 58 = .ok (.isub, 1) := by decide +kernel
theorem dX1_attach_59 : decode cX1_attach 59 = .ok (.putfield 67, 3) := by decide +kernel
theorem dX1_attach_62 : decode cX1_attach 62 = .ok (.return_, 1) := by decide +kernel
theorem dX1_wants_0 : decode cX1_wants 0 = .ok (.iload_n 0, 1) := by decide +kernel
theorem dX1_wants_1 : decode cX1_wants 1 = .ok (.ifCond .ne 5, 3) := by decide +kernel
theorem dX1_wants_4 : decode cX1_wants 4 = .ok (.iconst 1, 1) := by decide +kernel
theorem dX1_wants_5 : decode cX1_wants 5 = .ok (.ireturn, 1) := by decide +kernel
theorem dX1_wants_6 : decode cX1_wants 6 = .ok (.iload_n 0, 1) := by decide +kernel
theorem dX1_wants_7 : decode cX1_wants 7 = .ok (.iconst 4, 1) := by decide +kernel
theorem dX1_wants_8 : decode cX1_wants 8 = .ok (.if_icmp .ge 7, 3) := by decide +kernel
theorem dX1_wants_11 : decode cX1_wants 11 = .ok (.iconst 2, 1) := by decide +kernel
theorem dX1_wants_12 : decode cX1_wants 12 = .ok (.goto 4, 3) := by decide +kernel
theorem dX1_wants_15 : decode cX1_wants 15 = .ok (.iconst 0, 1) := by decide +kernel
theorem dX1_wants_16 : decode cX1_wants 16 = .ok (.ireturn, 1) := by decide +kernel
theorem dX1_back_0 : decode cX1_back 0 = .ok (.iload_n 1, 1) := by decide +kernel
theorem dX1_back_1 : decode cX1_back 1 = .ok (.invokestatic 56, 3) := by decide +kernel
theorem dX1_back_4 : decode cX1_back 4 = .ok (.ifCond .eq 12, 3) := by decide +kernel
theorem dX1_back_7 : decode cX1_back 7 = .ok (.aload_n 0, 1) := by decide +kernel
theorem dX1_back_8 : decode cX1_back 8 = .ok (.getfield 13, 3) := by decide +kernel
theorem dX1_back_11 : decode cX1_back 11 = .ok (.iload_n 1, 1) := by decide +kernel
theorem dX1_back_12 : decode cX1_back 12 = .ok (.baload, 1) := by decide +kernel
theorem dX1_back_13 : decode cX1_back 13 = .ok (.ifCond .ne 5, 3) := by decide +kernel
theorem dX1_back_16 : decode cX1_back 16 = .ok (.iconst (-1), 1) := by decide +kernel
theorem dX1_back_17 : decode cX1_back 17 = .ok (.ireturn, 1) := by decide +kernel
theorem dX1_back_18 : decode cX1_back 18 = .ok (.aload_n 0, 1) := by decide +kernel
theorem dX1_back_19 : decode cX1_back 19 = .ok (.getfield 13, 3) := by decide +kernel
theorem dX1_back_22 : decode cX1_back 22 = .ok (.iload_n 1, 1) := by decide +kernel
theorem dX1_back_23 : decode cX1_back 23 = .ok (.dup2, 1) := by decide +kernel
theorem dX1_back_24 : decode cX1_back 24 = .ok (.baload, 1) := by decide +kernel
theorem dX1_back_25 : decode cX1_back 25 = .ok (.iconst 1, 1) := by decide +kernel
theorem dX1_back_26 : decode cX1_back 26 = .ok (.isub, 1) := by decide +kernel
theorem dX1_back_27 : decode cX1_back 27 = .ok (.i2b, 1) := by decide +kernel
theorem dX1_back_28 : decode cX1_back 28 = .ok (.bastore, 1) := by decide +kernel
theorem dX1_back_29 : decode cX1_back 29 = .ok (.aload_n 0, 1) := by decide +kernel
theorem dX1_back_30 : decode cX1_back 30 = .ok (.getfield 7, 3) := by decide +kernel
theorem dX1_back_33 : decode cX1_back 33 = .ok (.iload_n 1, 1) := by decide +kernel
theorem dX1_back_34 : decode cX1_back 34 = .ok (.bipush 9, 2) := by decide +kernel
theorem dX1_back_36 : decode cX1_back 36 = .ok (.imul, 1) := by decide +kernel
theorem dX1_back_37 : decode cX1_back 37 = .ok (.aload_n 0, 1) := by decide +kernel
theorem dX1_back_38 : decode cX1_back 38 = .ok (.getfield 13, 3) := by decide +kernel
theorem dX1_back_41 : decode cX1_back 41 = .ok (.iload_n 1, 1) := by decide +kernel
theorem dX1_back_42 : decode cX1_back 42 = .ok (.baload, 1) := by decide +kernel
theorem dX1_back_43 : decode cX1_back 43 = .ok (.iadd, 1) := by decide +kernel
theorem dX1_back_44 : decode cX1_back 44 = .ok (.baload, 1) := by decide +kernel
theorem dX1_back_45 : decode cX1_back 45 = .ok (.ireturn, 1) := by decide +kernel
theorem dX1_value_0 : decode cX1_value 0 = .ok (.iload_n 2, 1) := by decide +kernel
theorem dX1_value_1 : decode cX1_value 1 = .ok (.ifCond .lt 17, 3) := by decide +kernel
theorem dX1_value_4 : decode cX1_value 4 = .ok (.iload_n 2, 1) := by decide +kernel
theorem dX1_value_5 : decode cX1_value 5 = .ok (.bipush 80, 2) := by decide +kernel
theorem dX1_value_7 : decode cX1_value 7 = .ok (.if_icmp .gt 11, 3) := by decide +kernel
theorem dX1_value_10 : decode cX1_value 10 = .ok (.aload_n 0, 1) := by decide +kernel
theorem dX1_value_11 : decode cX1_value 11 = .ok (.iload_n 1, 1) := by decide +kernel
theorem dX1_value_12 : decode cX1_value 12 = .ok (.invokevirtual 60, 3) := by decide +kernel
theorem dX1_value_15 : decode cX1_value 15 = .ok (.ifCond .ne 5, 3) := by decide +kernel
theorem dX1_value_18 : decode cX1_value 18 = .ok (.iconst (-1), 1) := by decide +kernel
theorem dX1_value_19 : decode cX1_value 19 = .ok (.ireturn, 1) := by decide +kernel
theorem dX1_value_20 : decode cX1_value 20 = .ok (.aload_n 0, 1) := by decide +kernel
theorem dX1_value_21 : decode cX1_value 21 = .ok (.getfield 13, 3) := by decide +kernel
theorem dX1_value_24 : decode cX1_value 24 = .ok (.iload_n 1, 1) := by decide +kernel
theorem dX1_value_25 : decode cX1_value 25 = .ok (.baload, 1) := by decide +kernel
theorem dX1_value_26 : decode cX1_value 26 = .ok (.iconst 1, 1) := by decide +kernel
theorem dX1_value_27 : decode cX1_value 27 = .ok (.isub, 1) := by decide +kernel
theorem dX1_value_28 : decode cX1_value 28 = .ok (.istore_n 3, 1) := by decide +kernel
theorem dX1_value_29 : decode cX1_value 29 = .ok (.iload_n 3, 1) := by decide +kernel
theorem dX1_value_30 : decode cX1_value 30 = .ok (.ifCond .lt 115, 3) := by decide +kernel
theorem dX1_value_33 : decode cX1_value 33 = .ok (.iload_n 1, 1) := by decide +kernel
theorem dX1_value_34 : decode cX1_value 34 = .ok (.bipush 9, 2) := by decide +kernel
theorem dX1_value_36 : decode cX1_value 36 = .ok (.imul, 1) := by decide +kernel
theorem dX1_value_37 : decode cX1_value 37 = .ok (.iload_n 3, 1) := by decide +kernel
theorem dX1_value_38 : decode cX1_value 38 = .ok (.iadd, 1) := by decide +kernel
theorem dX1_value_39 : decode cX1_value 39 = .ok (.istore 4, 2) := by decide +kernel
theorem dX1_value_41 : decode cX1_value 41 = .ok (.aload_n 0, 1) := by decide +kernel
theorem dX1_value_42 : decode cX1_value 42 = .ok (.getfield 7, 3) := by decide +kernel
theorem dX1_value_45 : decode cX1_value 45 = .ok (.iload 4, 2) := by decide +kernel
theorem dX1_value_47 : decode cX1_value 47 = .ok (.baload, 1) := by decide +kernel
theorem dX1_value_48 : decode cX1_value 48 = .ok (.istore 5, 2) := by decide +kernel
theorem dX1_value_50 : decode cX1_value 50 = .ok (.iload 5, 2) := by decide +kernel
theorem dX1_value_52 : decode cX1_value 52 = .ok (.iconst 4, 1) := by decide +kernel
theorem dX1_value_53 : decode cX1_value 53 = .ok (.if_icmp .lt 22, 3) := by decide +kernel
theorem dX1_value_56 : decode cX1_value 56 = .ok (.aload_n 0, 1) := by decide +kernel
theorem dX1_value_57 : decode cX1_value 57 = .ok (.getfield 49, 3) := by decide +kernel
theorem dX1_value_60 : decode cX1_value 60 = .ok (.iload 4, 2) := by decide +kernel
theorem dX1_value_62 : decode cX1_value 62 = .ok (.iload 5, 2) := by decide +kernel
theorem dX1_value_64 : decode cX1_value 64 = .ok (.iconst 4, 1) := by decide +kernel
theorem dX1_value_65 : decode cX1_value 65 = .ok (.isub, 1) := by decide +kernel
theorem dX1_value_66 : decode cX1_value 66 = .ok (.iload_n 2, 1) := by decide +kernel
theorem dX1_value_67 : decode cX1_value 67 = .ok (.invokestatic 77, 3) := by decide +kernel
theorem dX1_value_70 : decode cX1_value 70 = .ok (.i2b, 1) := by decide +kernel
theorem dX1_value_71 : decode cX1_value 71 = .ok (.bastore, 1) := by decide +kernel
theorem dX1_value_72 : decode cX1_value 72 = .ok (.goto 67, 3) := by decide +kernel
theorem dX1_value_75 : decode cX1_value 75 = .ok (.iload 5, 2) := by decide +kernel
theorem dX1_value_77 : decode cX1_value 77 = .ok (.ifCond .ne 27, 3) := by decide +kernel
theorem dX1_value_80 : decode cX1_value 80 = .ok (.aload_n 0, 1) := by decide +kernel
theorem dX1_value_81 : decode cX1_value 81 = .ok (.getfield 49, 3) := by decide +kernel
theorem dX1_value_84 : decode cX1_value 84 = .ok (.iload 4, 2) := by decide +kernel
theorem dX1_value_86 : decode cX1_value 86 = .ok (.aload_n 0, 1) := by decide +kernel
theorem dX1_value_87 : decode cX1_value 87 = .ok (.aload_n 0, 1) := by decide +kernel
theorem dX1_value_88 : decode cX1_value 88 = .ok (.getfield 49, 3) := by decide +kernel
theorem dX1_value_91 : decode cX1_value 91 = .ok (.iload 4, 2) := by decide +kernel
theorem dX1_value_93 : decode cX1_value 93 = .ok (.iconst 1, 1) := by decide +kernel
theorem dX1_value_94 : decode cX1_value 94 = .ok (.iadd, 1) := by decide +kernel
theorem dX1_value_95 : decode cX1_value 95 = .ok (.baload, 1) := by decide +kernel
theorem dX1_value_96 : decode cX1_value 96 = .ok (.invokevirtual 81, 3) := by decide +kernel
theorem dX1_value_99 : decode cX1_value 99 = .ok (.i2b, 1) := by decide +kernel
theorem dX1_value_100 : decode cX1_value 100 = .ok (.bastore, 1) := by decide +kernel
theorem dX1_value_101 : decode cX1_value 101 = .ok (.goto 38, 3) := by decide +kernel
theorem dX1_value_104 : decode cX1_value 104 = .ok (.aload_n 0, 1) := by decide +kernel
theorem dX1_value_105 : decode cX1_value 105 = .ok (.getfield 49, 3) := by decide +kernel
theorem dX1_value_108 : decode cX1_value 108 = .ok (.iload 4, 2) := by decide +kernel
theorem dX1_value_110 : decode cX1_value 110 = .ok (.aload_n 0, 1) := by decide +kernel
theorem dX1_value_111 : decode cX1_value 111 = .ok (.iload 5, 2) := by decide +kernel
theorem dX1_value_113 : decode cX1_value 113 = .ok (.aload_n 0, 1) := by decide +kernel
theorem dX1_value_114 : decode cX1_value 114 = .ok (.getfield 49, 3) := by decide +kernel
theorem dX1_value_117 : decode cX1_value 117 = .ok (.iload 4, 2) := by decide +kernel
theorem dX1_value_119 : decode cX1_value 119 = .ok (.iconst 1, 1) := by decide +kernel
theorem dX1_value_120 : decode cX1_value 120 = .ok (.iadd, 1) := by decide +kernel
theorem dX1_value_121 : decode cX1_value 121 = .ok (.baload, 1) := by decide +kernel
theorem dX1_value_122 : decode cX1_value 122 = .ok (.aload_n 0, 1) := by decide +kernel
theorem dX1_value_123 : decode cX1_value 123 = .ok (.getfield 49, 3) := by decide +kernel
theorem dX1_value_126 : decode cX1_value 126 = .ok (.aload_n 0, 1) := by decide +kernel
theorem dX1_value_127 : decode cX1_value 127 = .ok (.getfield 16, 3) := by decide +kernel
theorem dX1_value_130 : decode cX1_value 130 = .ok (.iload 4, 2) := by decide +kernel
theorem dX1_value_132 : decode cX1_value 132 = .ok (.baload, 1) := by decide +kernel
theorem dX1_value_133 : decode cX1_value 133 = .ok (.baload, 1) := by decide +kernel
theorem dX1_value_134 : decode cX1_value 134 = .ok (.invokevirtual 84, 3) := by decide +kernel
theorem dX1_value_137 : decode cX1_value 137 = .ok (.i2b, 1) := by decide +kernel
theorem dX1_value_138 : decode cX1_value 138 = .ok (.bastore, 1) := by decide +kernel
theorem dX1_value_139 : decode cX1_value 139 = .ok (.iinc 3 (-1), 3) := by decide +kernel
theorem dX1_value_142 : decode cX1_value 142 = .ok (.goto (-113), 3) := by decide +kernel
theorem dX1_value_145 : decode cX1_value 145 = .ok (.aload_n 0, 1) := by decide +kernel
theorem dX1_value_146 : decode cX1_value 146 = .ok (.getfield 49, 3) := by decide +kernel
theorem dX1_value_149 : decode cX1_value 149 = .ok (.iload_n 1, 1) := by decide +kernel
theorem dX1_value_150 : decode cX1_value 150 = .ok (.bipush 9, 2) := by decide +kernel
theorem dX1_value_152 : decode cX1_value 152 = .ok (.imul, 1) := by decide +kernel
theorem dX1_value_153 : decode cX1_value 153 = .ok (.baload, 1) := by decide +kernel
theorem dX1_value_154 : decode cX1_value 154 = .ok (.ireturn, 1) := by decide +kernel
theorem dX1_valueOf_0 : decode cX1_valueOf 0 = .ok (.iload_n 1, 1) := by decide +kernel
end
section
set_option maxRecDepth 100000
theorem dX1_valueOf_1 : decode cX1_valueOf 1 = .ok (.istore_n 2, 1) := by decide +kernel
theorem dX1_valueOf_2 : decode cX1_valueOf 2 = .ok (.iconst 0, 1) := by decide +kernel
theorem dX1_valueOf_3 : decode cX1_valueOf 3 = .ok (.istore_n 3, 1) := by decide +kernel
theorem dX1_valueOf_4 : decode cX1_valueOf 4 = .ok (.iload_n 3, 1) := by decide +kernel
theorem dX1_valueOf_5 : decode cX1_valueOf 5 = .ok (.iload_n 0, 1) := by decide +kernel
theorem dX1_valueOf_6 : decode cX1_valueOf 6 = .ok (.if_icmp .ge 13, 3) := by decide +kernel
theorem dX1_valueOf_9 : decode cX1_valueOf 9 = .ok (.iload_n 2, 1) := by decide +kernel
theorem dX1_valueOf_10 : decode cX1_valueOf 10 = .ok (.iconst 3, 1) := by decide +kernel
theorem dX1_valueOf_11 : decode cX1_valueOf 11 = .ok (.idiv, 1) := by decide +kernel
theorem dX1_valueOf_12 : decode cX1_valueOf 12 = .ok (.istore_n 2, 1) := by decide +kernel
theorem dX1_valueOf_13 : decode cX1_valueOf 13 = .ok (.iinc 3 1, 3) := by decide +kernel
theorem dX1_valueOf_16 : decode cX1_valueOf 16 = .ok (.goto (-12), 3) := by decide +kernel
theorem dX1_valueOf_19 : decode cX1_valueOf 19 = .ok (.iload_n 2, 1) := by decide +kernel
theorem dX1_valueOf_20 : decode cX1_valueOf 20 = .ok (.iconst 3, 1) := by decide +kernel
theorem dX1_valueOf_21 : decode cX1_valueOf 21 = .ok (.irem, 1) := by decide +kernel
theorem dX1_valueOf_22 : decode cX1_valueOf 22 = .ok (.ireturn, 1) := by decide +kernel
theorem dX1_not_0 : decode cX1_not 0 = .ok (.aload_n 0, 1) := by decide +kernel
theorem dX1_not_1 : decode cX1_not 1 = .ok (.getfield 52, 3) := by decide +kernel
theorem dX1_not_4 : decode cX1_not 4 = .ok (.iconst 2, 1) := by decide +kernel
theorem dX1_not_5 : decode cX1_not 5 = .ok (.if_icmp .ne 13, 3) := by decide +kernel
theorem dX1_not_8 : decode cX1_not 8 = .ok (.iload_n 1, 1) := by decide +kernel
theorem dX1_not_9 : decode cX1_not 9 = .ok (.ifCond .ne 7, 3) := by decide +kernel
theorem dX1_not_12 : decode cX1_not 12 = .ok (.iconst 2, 1) := by decide +kernel
theorem dX1_not_13 : decode cX1_not 13 = .ok (.goto 4, 3) := by decide +kernel
theorem dX1_not_16 : decode cX1_not 16 = .ok (.iconst 0, 1) := by decide +kernel
theorem dX1_not_17 : decode cX1_not 17 = .ok (.ireturn, 1) := by decide +kernel
theorem dX1_not_18 : decode cX1_not 18 = .ok (.iconst 2, 1) := by decide +kernel
theorem dX1_not_19 : decode cX1_not 19 = .ok (.iload_n 1, 1) := by decide +kernel
theorem dX1_not_20 : decode cX1_not 20 = .ok (.isub, 1) := by decide +kernel
theorem dX1_not_21 : decode cX1_not 21 = .ok (.ireturn, 1) := by decide +kernel
theorem dX1_apply_0 : decode cX1_apply 0 = .ok (.iload_n 1, 1) := by decide +kernel
theorem dX1_apply_1 : decode cX1_apply 1 = .ok (.iconst 1, 1) := by decide +kernel
theorem dX1_apply_2 : decode cX1_apply 2 = .ok (.if_icmp .ne 14, 3) := by decide +kernel
theorem dX1_apply_5 : decode cX1_apply 5 = .ok (.iload_n 2, 1) := by decide +kernel
theorem dX1_apply_6 : decode cX1_apply 6 = .ok (.iload_n 3, 1) := by decide +kernel
theorem dX1_apply_7 : decode cX1_apply 7 = .ok (.if_icmp .ge 7, 3) := by decide +kernel
theorem dX1_apply_10 : decode cX1_apply 10 = .ok (.iload_n 2, 1) := by decide +kernel
theorem dX1_apply_11 : decode cX1_apply 11 = .ok (.goto 4, 3) := by decide +kernel
theorem dX1_apply_14 : decode cX1_apply 14 = .ok (.iload_n 3, 1) := by decide +kernel
theorem dX1_apply_15 : decode cX1_apply 15 = .ok (.ireturn, 1) := by decide +kernel
theorem dX1_apply_16 : decode cX1_apply 16 = .ok (.iload_n 1, 1) := by decide +kernel
theorem dX1_apply_17 : decode cX1_apply 17 = .ok (.iconst 2, 1) := by decide +kernel
theorem dX1_apply_18 : decode cX1_apply 18 = .ok (.if_icmp .ne 14, 3) := by decide +kernel
theorem dX1_apply_21 : decode cX1_apply 21 = .ok (.iload_n 2, 1) := by decide +kernel
theorem dX1_apply_22 : decode cX1_apply 22 = .ok (.iload_n 3, 1) := by decide +kernel
theorem dX1_apply_23 : decode cX1_apply 23 = .ok (.if_icmp .le 7, 3) := by decide +kernel
theorem dX1_apply_26 : decode cX1_apply 26 = .ok (.iload_n 2, 1) := by decide +kernel
theorem dX1_apply_27 : decode cX1_apply 27 = .ok (.goto 4, 3) := by decide +kernel
theorem dX1_apply_30 : decode cX1_apply 30 = .ok (.iload_n 3, 1) := by decide +kernel
theorem dX1_apply_31 : decode cX1_apply 31 = .ok (.ireturn, 1) := by decide +kernel
theorem dX1_apply_32 : decode cX1_apply 32 = .ok (.aload_n 0, 1) := by decide +kernel
theorem dX1_apply_33 : decode cX1_apply 33 = .ok (.getfield 52, 3) := by decide +kernel
theorem dX1_apply_36 : decode cX1_apply 36 = .ok (.ifCond .ne 22, 3) := by decide +kernel
theorem dX1_apply_39 : decode cX1_apply 39 = .ok (.iconst 2, 1) := by decide +kernel
theorem dX1_apply_40 : decode cX1_apply 40 = .ok (.iload_n 2, 1) := by decide +kernel
theorem dX1_apply_41 : decode cX1_apply 41 = .ok (.isub, 1) := by decide +kernel
theorem dX1_apply_42 : decode cX1_apply 42 = .ok (.iload_n 3, 1) := by decide +kernel
theorem dX1_apply_43 : decode cX1_apply 43 = .ok (.iadd, 1) := by decide +kernel
theorem dX1_apply_44 : decode cX1_apply 44 = .ok (.iconst 2, 1) := by decide +kernel
theorem dX1_apply_45 : decode cX1_apply 45 = .ok (.if_icmp .ge 11, 3) := by decide +kernel
theorem dX1_apply_48 : decode cX1_apply 48 = .ok (.iconst 2, 1) := by decide +kernel
theorem dX1_apply_49 : decode cX1_apply 49 = .ok (.iload_n 2, 1) := by decide +kernel
theorem dX1_apply_50 : decode cX1_apply 50 = .ok (.isub, 1) := by decide +kernel
theorem dX1_apply_51 : decode cX1_apply 51 = .ok (.iload_n 3, 1) := by decide +kernel
theorem dX1_apply_52 : decode cX1_apply 52 = .ok (.iadd, 1) := by decide +kernel
theorem dX1_apply_53 : decode cX1_apply 53 = .ok (.goto 4, 3) := by decide +kernel
theorem dX1_apply_56 : decode cX1_apply 56 = .ok (.iconst 2, 1) := by decide +kernel
theorem dX1_apply_57 : decode cX1_apply 57 = .ok (.ireturn, 1) := by decide +kernel
theorem dX1_apply_58 : decode cX1_apply 58 = .ok (.aload_n 0, 1) := by decide +kernel
theorem dX1_apply_59 : decode cX1_apply 59 = .ok (.getfield 52, 3) := by decide +kernel
theorem dX1_apply_62 : decode cX1_apply 62 = .ok (.iconst 1, 1) := by decide +kernel
theorem dX1_apply_63 : decode cX1_apply 63 = .ok (.if_icmp .ne 18, 3) := by decide +kernel
theorem dX1_apply_66 : decode cX1_apply 66 = .ok (.iconst 2, 1) := by decide +kernel
theorem dX1_apply_67 : decode cX1_apply 67 = .ok (.iload_n 2, 1) := by decide +kernel
theorem dX1_apply_68 : decode cX1_apply 68 = .ok (.isub, 1) := by decide +kernel
theorem dX1_apply_69 : decode cX1_apply 69 = .ok (.iload_n 3, 1) := by decide +kernel
theorem dX1_apply_70 : decode cX1_apply 70 = .ok (.if_icmp .le 9, 3) := by decide +kernel
theorem dX1_apply_73 : decode cX1_apply 73 = .ok (.iconst 2, 1) := by decide +kernel
theorem dX1_apply_74 : decode cX1_apply 74 = .ok (.iload_n 2, 1) := by decide +kernel
theorem dX1_apply_75 : decode cX1_apply 75 = .ok (.isub, 1) := by decide +kernel
theorem dX1_apply_76 : decode cX1_apply 76 = .ok (.goto 4, 3) := by decide +kernel
theorem dX1_apply_79 : decode cX1_apply 79 = .ok (.iload_n 3, 1) := by decide +kernel
theorem dX1_apply_80 : decode cX1_apply 80 = .ok (.ireturn, 1) := by decide +kernel
theorem dX1_apply_81 : decode cX1_apply 81 = .ok (.iload_n 2, 1) := by decide +kernel
theorem dX1_apply_82 : decode cX1_apply 82 = .ok (.iload_n 3, 1) := by decide +kernel
theorem dX1_apply_83 : decode cX1_apply 83 = .ok (.if_icmp .gt 7, 3) := by decide +kernel
theorem dX1_apply_86 : decode cX1_apply 86 = .ok (.iconst 2, 1) := by decide +kernel
theorem dX1_apply_87 : decode cX1_apply 87 = .ok (.goto 4, 3) := by decide +kernel
theorem dX1_apply_90 : decode cX1_apply 90 = .ok (.iload_n 3, 1) := by decide +kernel
theorem dX1_apply_91 : decode cX1_apply 91 = .ok (.ireturn, 1) := by decide +kernel
theorem dX1_find_0 : decode cX1_find 0 = .ok (.iload_n 2, 1) := by decide +kernel
theorem dX1_find_1 : decode cX1_find 1 = .ok (.invokestatic 131, 3) := by decide +kernel
theorem dX1_find_4 : decode cX1_find 4 = .ok (.ifCond .eq 11, 3) := by decide +kernel
theorem dX1_find_7 : decode cX1_find 7 = .ok (.aload_n 0, 1) := by decide +kernel
theorem dX1_find_8 : decode cX1_find 8 = .ok (.iload_n 1, 1) := by decide +kernel
theorem dX1_find_9 : decode cX1_find 9 = .ok (.invokevirtual 60, 3) := by decide +kernel
theorem dX1_find_12 : decode cX1_find 12 = .ok (.ifCond .ne 5, 3) := by decide +kernel
theorem dX1_find_15 : decode cX1_find 15 = .ok (.iconst (-1), 1) := by decide +kernel
theorem dX1_find_16 : decode cX1_find 16 = .ok (.ireturn, 1) := by decide +kernel
theorem dX1_find_17 : decode cX1_find 17 = .ok (.aload_n 0, 1) := by decide +kernel
theorem dX1_find_18 : decode cX1_find 18 = .ok (.iload_n 1, 1) := by decide +kernel
theorem dX1_find_19 : decode cX1_find 19 = .ok (.iconst 1, 1) := by decide +kernel
theorem dX1_find_20 : decode cX1_find 20 = .ok (.iload_n 2, 1) := by decide +kernel
theorem dX1_find_21 : decode cX1_find 21 = .ok (.ishl, 1) := by decide +kernel
theorem dX1_find_22 : decode cX1_find 22 = .ok (.invokevirtual 134, 3) := by decide +kernel
theorem dX1_find_25 : decode cX1_find 25 = .ok (.aload_n 0, 1) := by decide +kernel
theorem dX1_find_26 : decode cX1_find 26 = .ok (.invokevirtual 137, 3) := by decide +kernel
theorem dX1_find_29 : decode cX1_find 29 = .ok (.ireturn, 1) := by decide +kernel
theorem dX1_isValue_0 : decode cX1_isValue 0 = .ok (.iload_n 0, 1) := by decide +kernel
theorem dX1_isValue_1 : decode cX1_isValue 1 = .ok (.ifCond .lt 12, 3) := by decide +kernel
theorem dX1_isValue_4 : decode cX1_isValue 4 = .ok (.iload_n 0, 1) := by decide +kernel
theorem dX1_isValue_5 : decode cX1_isValue 5 = .ok (.iconst 3, 1) := by decide +kernel
theorem dX1_isValue_6 : decode cX1_isValue 6 = .ok (.if_icmp .ge 7, 3) := by decide +kernel
theorem dX1_isValue_9 : decode cX1_isValue 9 = .ok (.iconst 1, 1) := by decide +kernel
theorem dX1_isValue_10 : decode cX1_isValue 10 = .ok (.goto 4, 3) := by decide +kernel
theorem dX1_isValue_13 : decode cX1_isValue 13 = .ok (.iconst 0, 1) := by decide +kernel
theorem dX1_isValue_14 : decode cX1_isValue 14 = .ok (.ireturn, 1) := by decide +kernel
theorem dX1_askOne_0 : decode cX1_askOne 0 = .ok (.aload_n 0, 1) := by decide +kernel
theorem dX1_askOne_1 : decode cX1_askOne 1 = .ok (.iload_n 1, 1) := by decide +kernel
theorem dX1_askOne_2 : decode cX1_askOne 2 = .ok (.ifCond .ne 7, 3) := by decide +kernel
theorem dX1_askOne_5 : decode cX1_askOne 5 = .ok (.iload_n 2, 1) := by decide +kernel
theorem dX1_askOne_6 : decode cX1_askOne 6 = .ok (.goto 5, 3) := by decide +kernel
theorem dX1_askOne_9 : decode cX1_askOne 9 = .ok (.bipush 7, 2) := by decide +kernel
theorem dX1_askOne_11 : decode cX1_askOne 11 = .ok (.iload_n 1, 1) := by decide +kernel
theorem dX1_askOne_12 : decode cX1_askOne 12 = .ok (.ifCond .ne 8, 3) := by decide +kernel
theorem dX1_askOne_15 : decode cX1_askOne 15 = .ok (.bipush 7, 2) := by decide +kernel
theorem dX1_askOne_17 : decode cX1_askOne 17 = .ok (.goto 4, 3) := by decide +kernel
theorem dX1_askOne_20 : decode cX1_askOne 20 = .ok (.iload_n 2, 1) := by decide +kernel
theorem dX1_askOne_21 : decode cX1_askOne 21 = .ok (.invokevirtual 121, 3) := by decide +kernel
theorem dX1_askOne_24 : decode cX1_askOne 24 = .ok (.return_, 1) := by decide +kernel
theorem dX1_ask_0 : decode cX1_ask 0 = .ok (.aload_n 0, 1) := by decide +kernel
theorem dX1_ask_1 : decode cX1_ask 1 = .ok (.iload_n 1, 1) := by decide +kernel
theorem dX1_ask_2 : decode cX1_ask 2 = .ok (.putfield 94, 3) := by decide +kernel
theorem dX1_ask_5 : decode cX1_ask 5 = .ok (.aload_n 0, 1) := by decide +kernel
theorem dX1_ask_6 : decode cX1_ask 6 = .ok (.iload_n 2, 1) := by decide +kernel
theorem dX1_ask_7 : decode cX1_ask 7 = .ok (.putfield 101, 3) := by decide +kernel
theorem dX1_ask_10 : decode cX1_ask 10 = .ok (.iconst 0, 1) := by decide +kernel
theorem dX1_ask_11 : decode cX1_ask 11 = .ok (.istore_n 3, 1) := by decide +kernel
theorem dX1_ask_12 : decode cX1_ask 12 = .ok (.iload_n 3, 1) := by decide +kernel
theorem dX1_ask_13 : decode cX1_ask 13 = .ok (.iconst 4, 1) := by decide +kernel
theorem dX1_ask_14 : decode cX1_ask 14 = .ok (.if_icmp .ge 17, 3) := by decide +kernel
theorem dX1_ask_17 : decode cX1_ask 17 = .ok (.aload_n 0, 1) := by decide +kernel
theorem dX1_ask_18 : decode cX1_ask 18 = .ok (.getfield 46, 3) := by decide +kernel
theorem dX1_ask_21 : decode cX1_ask 21 = .ok (.iload_n 3, 1) := by decide +kernel
theorem dX1_ask_22 : decode cX1_ask 22 = .ok (.bipush 7, 2) := by decide +kernel
theorem dX1_ask_24 : decode cX1_ask 24 = .ok (.bastore, 1) := by decide +kernel
theorem dX1_ask_25 : decode cX1_ask 25 = .ok (.iinc 3 1, 3) := by decide +kernel
theorem dX1_ask_28 : decode cX1_ask 28 = .ok (.goto (-16), 3) := by decide +kernel
theorem dX1_ask_31 : decode cX1_ask 31 = .ok (.return_, 1) := by decide +kernel
theorem dX1_least_0 : decode cX1_least 0 = .ok (.aload_n 0, 1) := by decide +kernel
theorem dX1_least_1 : decode cX1_least 1 = .ok (.invokevirtual 124, 3) := by decide +kernel
theorem dX1_least_4 : decode cX1_least 4 = .ok (.ifCond .ne 5, 3) := by decide +kernel
theorem dX1_least_7 : decode cX1_least 7 = .ok (.iconst (-1), 1) := by decide +kernel
theorem dX1_least_8 : decode cX1_least 8 = .ok (.ireturn, 1) := by decide +kernel
theorem dX1_least_9 : decode cX1_least 9 = .ok (.iconst 0, 1) := by decide +kernel
theorem dX1_least_10 : decode cX1_least 10 = .ok (.istore_n 1, 1) := by decide +kernel
theorem dX1_least_11 : decode cX1_least 11 = .ok (.iconst 3, 1) := by decide +kernel
theorem dX1_least_12 : decode cX1_least 12 = .ok (.istore_n 2, 1) := by decide +kernel
theorem dX1_least_13 : decode cX1_least 13 = .ok (.iload_n 2, 1) := by decide +kernel
theorem dX1_least_14 : decode cX1_least 14 = .ok (.ifCond .lt 21, 3) := by decide +kernel
theorem dX1_least_17 : decode cX1_least 17 = .ok (.aload_n 0, 1) := by decide +kernel
theorem dX1_least_18 : decode cX1_least 18 = .ok (.iload_n 2, 1) := by decide +kernel
theorem dX1_least_19 : decode cX1_least 19 = .ok (.invokevirtual 128, 3) := by decide +kernel
theorem dX1_least_22 : decode cX1_least 22 = .ok (.istore_n 3, 1) := by decide +kernel
theorem dX1_least_23 : decode cX1_least 23 = .ok (.iconst 3, 1) := by decide +kernel
theorem dX1_least_24 : decode cX1_least 24 = .ok (.iload_n 1, 1) := by decide +kernel
theorem dX1_least_25 : decode cX1_least 25 = .ok (.imul, 1) := by decide +kernel
theorem dX1_least_26 : decode cX1_least 26 = .ok (.iload_n 3, 1) := by decide +kernel
theorem dX1_least_27 : decode cX1_least 27 = .ok (.iadd, 1) := by decide +kernel
theorem dX1_least_28 : decode cX1_least 28 = .ok (.istore_n 1, 1) := by decide +kernel
theorem dX1_least_29 : decode cX1_least 29 = .ok (.iinc 2 (-1), 3) := by decide +kernel
theorem dX1_least_32 : decode cX1_least 32 = .ok (.goto (-19), 3) := by decide +kernel
theorem dX1_least_35 : decode cX1_least 35 = .ok (.iload_n 1, 1) := by decide +kernel
theorem dX1_least_36 : decode cX1_least 36 = .ok (.ireturn, 1) := by decide +kernel
theorem dX1_meets_0 : decode cX1_meets 0 = .ok (.aload_n 0, 1) := by decide +kernel
theorem dX1_meets_1 : decode cX1_meets 1 = .ok (.iconst 0, 1) := by decide +kernel
theorem dX1_meets_2 : decode cX1_meets 2 = .ok (.putfield 88, 3) := by decide +kernel
theorem dX1_meets_5 : decode cX1_meets 5 = .ok (.aload_n 0, 1) := by decide +kernel
theorem dX1_meets_6 : decode cX1_meets 6 = .ok (.iconst 0, 1) := by decide +kernel
theorem dX1_meets_7 : decode cX1_meets 7 = .ok (.putfield 91, 3) := by decide +kernel
theorem dX1_meets_10 : decode cX1_meets 10 = .ok (.aload_n 0, 1) := by decide +kernel
theorem dX1_meets_11 : decode cX1_meets 11 = .ok (.getfield 94, 3) := by decide +kernel
theorem dX1_meets_14 : decode cX1_meets 14 = .ok (.bipush 7, 2) := by decide +kernel
theorem dX1_meets_16 : decode cX1_meets 16 = .ok (.if_icmp .eq 12, 3) := by decide +kernel
theorem dX1_meets_19 : decode cX1_meets 19 = .ok (.aload_n 0, 1) := by decide +kernel
theorem dX1_meets_20 : decode cX1_meets 20 = .ok (.iconst 0, 1) := by decide +kernel
theorem dX1_meets_21 : decode cX1_meets 21 = .ok (.aload_n 0, 1) := by decide +kernel
theorem dX1_meets_22 : decode cX1_meets 22 = .ok (.getfield 94, 3) := by decide +kernel
theorem dX1_meets_25 : decode cX1_meets 25 = .ok (.invokevirtual 97, 3) := by decide +kernel
theorem dX1_meets_28 : decode cX1_meets 28 = .ok (.aload_n 0, 1) := by decide +kernel
theorem dX1_meets_29 : decode cX1_meets 29 = .ok (.getfield 101, 3) := by decide +kernel
theorem dX1_meets_32 : decode cX1_meets 32 = .ok (.bipush 7, 2) := by decide +kernel
theorem dX1_meets_34 : decode cX1_meets 34 = .ok (.if_icmp .eq 13, 3) := by decide +kernel
theorem dX1_meets_37 : decode cX1_meets 37 = .ok (.aload_n 0, 1) := by decide +kernel
theorem dX1_meets_38 : decode cX1_meets 38 = .ok (.bipush 9, 2) := by decide +kernel
theorem dX1_meets_40 : decode cX1_meets 40 = .ok (.aload_n 0, 1) := by decide +kernel
theorem dX1_meets_41 : decode cX1_meets 41 = .ok (.getfield 101, 3) := by decide +kernel
theorem dX1_meets_44 : decode cX1_meets 44 = .ok (.invokevirtual 97, 3) := by decide +kernel
theorem dX1_meets_47 : decode cX1_meets 47 = .ok (.iconst 0, 1) := by decide +kernel
theorem dX1_meets_48 : decode cX1_meets 48 = .ok (.istore_n 1, 1) := by decide +kernel
theorem dX1_meets_49 : decode cX1_meets 49 = .ok (.iload_n 1, 1) := by decide +kernel
theorem dX1_meets_50 : decode cX1_meets 50 = .ok (.iconst 4, 1) := by decide +kernel
theorem dX1_meets_51 : decode cX1_meets 51 = .ok (.if_icmp .ge 21, 3) := by decide +kernel
theorem dX1_meets_54 : decode cX1_meets 54 = .ok (.aload_n 0, 1) := by decide +kernel
theorem dX1_meets_55 : decode cX1_meets 55 = .ok (.getfield 31, 3) := by decide +kernel
theorem dX1_meets_58 : decode cX1_meets 58 = .ok (.iload_n 1, 1) := by decide +kernel
theorem dX1_meets_59 : decode cX1_meets 59 = .ok (.aload_n 0, 1) := by decide +kernel
theorem dX1_meets_60 : decode cX1_meets 60 = .ok (.getfield 46, 3) := by decide +kernel
theorem dX1_meets_63 : decode cX1_meets 63 = .ok (.iload_n 1, 1) := by decide +kernel
theorem dX1_meets_64 : decode cX1_meets 64 = .ok (.baload, 1) := by decide +kernel
theorem dX1_meets_65 : decode cX1_meets 65 = .ok (.bastore, 1) := by decide +kernel
theorem dX1_meets_66 : decode cX1_meets 66 = .ok (.iinc 1 1, 3) := by decide +kernel
theorem dX1_meets_69 : decode cX1_meets 69 = .ok (.goto (-20), 3) := by decide +kernel
theorem dX1_meets_72 : decode cX1_meets 72 = .ok (.iconst 0, 1) := by decide +kernel
theorem dX1_meets_73 : decode cX1_meets 73 = .ok (.istore_n 1, 1) := by decide +kernel
theorem dX1_meets_74 : decode cX1_meets 74 = .ok (.aload_n 0, 1) := by decide +kernel
theorem dX1_meets_75 : decode cX1_meets 75 = .ok (.invokevirtual 104, 3) := by decide +kernel
theorem dX1_meets_78 : decode cX1_meets 78 = .ok (.istore_n 2, 1) := by decide +kernel
theorem dX1_meets_79 : decode cX1_meets 79 = .ok (.iconst 0, 1) := by decide +kernel
theorem dX1_meets_80 : decode cX1_meets 80 = .ok (.istore_n 3, 1) := by decide +kernel
theorem dX1_meets_81 : decode cX1_meets 81 = .ok (.iload_n 3, 1) := by decide +kernel
theorem dX1_meets_82 : decode cX1_meets 82 = .ok (.ldc 108, 2) := by decide +kernel
theorem dX1_meets_84 : decode cX1_meets 84 = .ok (.if_icmp .ge 73, 3) := by decide +kernel
theorem dX1_meets_87 : decode cX1_meets 87 = .ok (.iload_n 2, 1) := by decide +kernel
theorem dX1_meets_88 : decode cX1_meets 88 = .ok (.iconst 1, 1) := by decide +kernel
theorem dX1_meets_89 : decode cX1_meets 89 = .ok (.if_icmp .ne 5, 3) := by decide +kernel
theorem dX1_meets_92 : decode cX1_meets 92 = .ok (.iconst 1, 1) := by decide +kernel
theorem dX1_meets_93 : decode cX1_meets 93 = .ok (.ireturn, 1) := by decide +kernel
theorem dX1_meets_94 : decode cX1_meets 94 = .ok (.iload_n 2, 1) := by decide +kernel
theorem dX1_meets_95 : decode cX1_meets 95 = .ok (.iconst 2, 1) := by decide +kernel
theorem dX1_meets_96 : decode cX1_meets 96 = .ok (.if_icmp .ne 11, 3) := by decide +kernel
theorem dX1_meets_99 : decode cX1_meets 99 = .ok (.aload_n 0, 1) := by decide +kernel
theorem dX1_meets_100 : decode cX1_meets 100 = .ok (.iload_n 1, 1) := by decide +kernel
theorem dX1_meets_101 : decode cX1_meets 101 = .ok (.invokevirtual 109, 3) := by decide +kernel
theorem dX1_meets_104 : decode cX1_meets 104 = .ok (.iinc 1 1, 3) := by decide +kernel
theorem dX1_meets_107 : decode cX1_meets 107 = .ok (.iconst 0, 1) := by decide +kernel
theorem dX1_meets_108 : decode cX1_meets 108 = .ok (.istore 4, 2) := by decide +kernel
theorem dX1_meets_110 : decode cX1_meets 110 = .ok (.iload_n 1, 1) := by decide +kernel
theorem dX1_meets_111 : decode cX1_meets 111 = .ok (.ifCond .le 28, 3) := by decide +kernel
theorem dX1_meets_114 : decode cX1_meets 114 = .ok (.iload 4, 2) := by decide +kernel
theorem dX1_meets_116 : decode cX1_meets 116 = .ok (.ifCond .ne 23, 3) := by decide +kernel
theorem dX1_meets_119 : decode cX1_meets 119 = .ok (.aload_n 0, 1) := by decide +kernel
theorem dX1_meets_120 : decode cX1_meets 120 = .ok (.iload_n 1, 1) := by decide +kernel
theorem dX1_meets_121 : decode cX1_meets 121 = .ok (.iconst 1, 1) := by decide +kernel
theorem dX1_meets_122 : decode cX1_meets 122 = .ok (.isub, 1) := by decide +kernel
theorem dX1_meets_123 : decode cX1_meets 123 = .ok (.invokevirtual 112, 3) := by decide +kernel
theorem dX1_meets_126 : decode cX1_meets 126 = .ok (.istore 4, 2) := by decide +kernel
theorem dX1_meets_128 : decode cX1_meets 128 = .ok (.iload 4, 2) := by decide +kernel
theorem dX1_meets_130 : decode cX1_meets 130 = .ok (.ifCond .ne (-20), 3) := by decide +kernel
theorem dX1_meets_133 : decode cX1_meets 133 = .ok (.iinc 1 (-1), 3) := by decide +kernel
theorem dX1_meets_136 : decode cX1_meets 136 = .ok (.goto (-26), 3) := by decide +kernel
theorem dX1_meets_139 : decode cX1_meets 139 = .ok (.iload 4, 2) := by decide +kernel
theorem dX1_meets_141 : decode cX1_meets 141 = .ok (.ifCond .ne 5, 3) := by decide +kernel
theorem dX1_meets_144 : decode cX1_meets 144 = .ok (.iconst 0, 1) := by decide +kernel
theorem dX1_meets_145 : decode cX1_meets 145 = .ok (.ireturn, 1) := by decide +kernel
theorem dX1_meets_146 : decode cX1_meets 146 = .ok (.aload_n 0, 1) := by decide +kernel
theorem dX1_meets_147 : decode cX1_meets 147 = .ok (.invokevirtual 104, 3) := by decide +kernel
theorem dX1_meets_150 : decode cX1_meets 150 = .ok (.istore_n 2, 1) := by decide +kernel
theorem dX1_meets_151 : decode cX1_meets 151 = .ok (.iinc 3 1, 3) := by decide +kernel
theorem dX1_meets_154 : decode cX1_meets 154 = .ok (.goto (-73), 3) := by decide +kernel
theorem dX1_meets_157 : decode cX1_meets 157 = .ok (.iconst 0, 1) := by decide +kernel
theorem dX1_meets_158 : decode cX1_meets 158 = .ok (.ireturn, 1) := by decide +kernel
theorem dX1_demand_0 : decode cX1_demand 0 = .ok (.aload_n 0, 1) := by decide +kernel
theorem dX1_demand_1 : decode cX1_demand 1 = .ok (.getfield 88, 3) := by decide +kernel
theorem dX1_demand_4 : decode cX1_demand 4 = .ok (.bipush 32, 2) := by decide +kernel
theorem dX1_demand_6 : decode cX1_demand 6 = .ok (.if_icmp .ge 35, 3) := by decide +kernel
theorem dX1_demand_9 : decode cX1_demand 9 = .ok (.aload_n 0, 1) := by decide +kernel
theorem dX1_demand_10 : decode cX1_demand 10 = .ok (.getfield 25, 3) := by decide +kernel
theorem dX1_demand_13 : decode cX1_demand 13 = .ok (.aload_n 0, 1) := by decide +kernel
theorem dX1_demand_14 : decode cX1_demand 14 = .ok (.getfield 88, 3) := by decide +kernel
theorem dX1_demand_17 : decode cX1_demand 17 = .ok (.iload_n 1, 1) := by decide +kernel
theorem dX1_demand_18 : decode cX1_demand 18 = .ok (.i2b, 1) := by decide +kernel
theorem dX1_demand_19 : decode cX1_demand 19 = .ok (.bastore, 1) := by decide +kernel
theorem dX1_demand_20 : decode cX1_demand 20 = .ok (.aload_n 0, 1) := by decide +kernel
theorem dX1_demand_21 : decode cX1_demand 21 = .ok (.getfield 28, 3) := by decide +kernel
theorem dX1_demand_24 : decode cX1_demand 24 = .ok (.aload_n 0, 1) := by decide +kernel
theorem dX1_demand_25 : decode cX1_demand 25 = .ok (.getfield 88, 3) := by decide +kernel
theorem dX1_demand_28 : decode cX1_demand 28 = .ok (.iload_n 2, 1) := by decide +kernel
theorem dX1_demand_29 : decode cX1_demand 29 = .ok (.i2b, 1) := by decide +kernel
theorem dX1_demand_30 : decode cX1_demand 30 = .ok (.bastore, 1) := by decide +kernel
theorem dX1_demand_31 : decode cX1_demand 31 = .ok (.aload_n 0, 1) := by decide +kernel
theorem dX1_demand_32 : decode cX1_demand 32 = .ok (.dup, 1) := by decide +kernel
theorem dX1_demand_33 : decode cX1_demand 33 = .ok (.getfield 88, 3) := by decide +kernel
theorem dX1_demand_36 : decode cX1_demand 36 = .ok (.iconst 1, 1) := by decide +kernel
theorem dX1_demand_37 : decode cX1_demand 37 = .ok (.iadd, 1) := by decide +kernel
theorem dX1_demand_38 : decode cX1_demand 38 = .ok (.putfield 88, 3) := by decide +kernel
theorem dX1_demand_41 : decode cX1_demand 41 = .ok (.return_, 1) := by decide +kernel
theorem dX1_goOn_0 : decode cX1_goOn 0 = .ok (.aload_n 0, 1) := by decide +kernel
theorem dX1_goOn_1 : decode cX1_goOn 1 = .ok (.getfield 91, 3) := by decide +kernel
theorem dX1_goOn_4 : decode cX1_goOn 4 = .ok (.aload_n 0, 1) := by decide +kernel
theorem dX1_goOn_5 : decode cX1_goOn 5 = .ok (.getfield 88, 3) := by decide +kernel
theorem dX1_goOn_8 : decode cX1_goOn 8 = .ok (.if_icmp .ge 116, 3) := by decide +kernel
theorem dX1_goOn_11 : decode cX1_goOn 11 = .ok (.aload_n 0, 1) := by decide +kernel
theorem dX1_goOn_12 : decode cX1_goOn 12 = .ok (.getfield 25, 3) := by decide +kernel
theorem dX1_goOn_15 : decode cX1_goOn 15 = .ok (.aload_n 0, 1) := by decide +kernel
theorem dX1_goOn_16 : decode cX1_goOn 16 = .ok (.getfield 91, 3) := by decide +kernel
theorem dX1_goOn_19 : decode cX1_goOn 19 = .ok (.baload, 1) := by decide +kernel
theorem dX1_goOn_20 : decode cX1_goOn 20 = .ok (.istore_n 1, 1) := by decide +kernel
theorem dX1_goOn_21 : decode cX1_goOn 21 = .ok (.aload_n 0, 1) := by decide +kernel
theorem dX1_goOn_22 : decode cX1_goOn 22 = .ok (.getfield 7, 3) := by decide +kernel
theorem dX1_goOn_25 : decode cX1_goOn 25 = .ok (.iload_n 1, 1) := by decide +kernel
theorem dX1_goOn_26 : decode cX1_goOn 26 = .ok (.baload, 1) := by decide +kernel
theorem dX1_goOn_27 : decode cX1_goOn 27 = .ok (.istore_n 2, 1) := by decide +kernel
theorem dX1_goOn_28 : decode cX1_goOn 28 = .ok (.iload_n 2, 1) := by decide +kernel
theorem dX1_goOn_29 : decode cX1_goOn 29 = .ok (.iconst 4, 1) := by decide +kernel
theorem dX1_goOn_30 : decode cX1_goOn 30 = .ok (.if_icmp .lt 44, 3) := by decide +kernel
theorem dX1_goOn_33 : decode cX1_goOn 33 = .ok (.iload_n 2, 1) := by decide +kernel
theorem dX1_goOn_34 : decode cX1_goOn 34 = .ok (.iconst 4, 1) := by decide +kernel
theorem dX1_goOn_35 : decode cX1_goOn 35 = .ok (.isub, 1) := by decide +kernel
theorem dX1_goOn_36 : decode cX1_goOn 36 = .ok (.istore_n 3, 1) := by decide +kernel
theorem dX1_goOn_37 : decode cX1_goOn 37 = .ok (.aload_n 0, 1) := by decide +kernel
theorem dX1_goOn_38 : decode cX1_goOn 38 = .ok (.getfield 31, 3) := by decide +kernel
theorem dX1_goOn_41 : decode cX1_goOn 41 = .ok (.iload_n 3, 1) := by decide +kernel
theorem dX1_goOn_42 : decode cX1_goOn 42 = .ok (.aload_n 0, 1) := by decide +kernel
theorem dX1_goOn_43 : decode cX1_goOn 43 = .ok (.getfield 31, 3) := by decide +kernel
theorem dX1_goOn_46 : decode cX1_goOn 46 = .ok (.iload_n 3, 1) := by decide +kernel
theorem dX1_goOn_47 : decode cX1_goOn 47 = .ok (.baload, 1) := by decide +kernel
theorem dX1_goOn_48 : decode cX1_goOn 48 = .ok (.aload_n 0, 1) := by decide +kernel
theorem dX1_goOn_49 : decode cX1_goOn 49 = .ok (.getfield 28, 3) := by decide +kernel
theorem dX1_goOn_52 : decode cX1_goOn 52 = .ok (.aload_n 0, 1) := by decide +kernel
theorem dX1_goOn_53 : decode cX1_goOn 53 = .ok (.getfield 91, 3) := by decide +kernel
theorem dX1_goOn_56 : decode cX1_goOn 56 = .ok (.baload, 1) := by decide +kernel
theorem dX1_goOn_57 : decode cX1_goOn 57 = .ok (.iand, 1) := by decide +kernel
theorem dX1_goOn_58 : decode cX1_goOn 58 = .ok (.i2b, 1) := by decide +kernel
theorem dX1_goOn_59 : decode cX1_goOn 59 = .ok (.bastore, 1) := by decide +kernel
theorem dX1_goOn_60 : decode cX1_goOn 60 = .ok (.aload_n 0, 1) := by decide +kernel
theorem dX1_goOn_61 : decode cX1_goOn 61 = .ok (.getfield 31, 3) := by decide +kernel
theorem dX1_goOn_64 : decode cX1_goOn 64 = .ok (.iload_n 3, 1) := by decide +kernel
theorem dX1_goOn_65 : decode cX1_goOn 65 = .ok (.baload, 1) := by decide +kernel
theorem dX1_goOn_66 : decode cX1_goOn 66 = .ok (.ifCond .ne 5, 3) := by decide +kernel
theorem dX1_goOn_69 : decode cX1_goOn 69 = .ok (.iconst 0, 1) := by decide +kernel
theorem dX1_goOn_70 : decode cX1_goOn 70 = .ok (.ireturn, 1) := by decide +kernel
theorem dX1_goOn_71 : decode cX1_goOn 71 = .ok (.goto 40, 3) := by decide +kernel
theorem dX1_goOn_74 : decode cX1_goOn 74 = .ok (.iload_n 2, 1) := by decide +kernel
theorem dX1_goOn_75 : decode cX1_goOn 75 = .ok (.ifCond .ne 34, 3) := by decide +kernel
theorem dX1_goOn_78 : decode cX1_goOn 78 = .ok (.aload_n 0, 1) := by decide +kernel
theorem dX1_goOn_79 : decode cX1_goOn 79 = .ok (.aload_n 0, 1) := by decide +kernel
theorem dX1_goOn_80 : decode cX1_goOn 80 = .ok (.getfield 28, 3) := by decide +kernel
theorem dX1_goOn_83 : decode cX1_goOn 83 = .ok (.aload_n 0, 1) := by decide +kernel
theorem dX1_goOn_84 : decode cX1_goOn 84 = .ok (.getfield 91, 3) := by decide +kernel
theorem dX1_goOn_87 : decode cX1_goOn 87 = .ok (.baload, 1) := by decide +kernel
theorem dX1_goOn_88 : decode cX1_goOn 88 = .ok (.invokevirtual 115, 3) := by decide +kernel
theorem dX1_goOn_91 : decode cX1_goOn 91 = .ok (.istore_n 3, 1) := by decide +kernel
theorem dX1_goOn_92 : decode cX1_goOn 92 = .ok (.iload_n 3, 1) := by decide +kernel
theorem dX1_goOn_93 : decode cX1_goOn 93 = .ok (.ifCond .ne 5, 3) := by decide +kernel
theorem dX1_goOn_96 : decode cX1_goOn 96 = .ok (.iconst 0, 1) := by decide +kernel
theorem dX1_goOn_97 : decode cX1_goOn 97 = .ok (.ireturn, 1) := by decide +kernel
theorem dX1_goOn_98 : decode cX1_goOn 98 = .ok (.aload_n 0, 1) := by decide +kernel
theorem dX1_goOn_99 : decode cX1_goOn 99 = .ok (.iload_n 1, 1) := by decide +kernel
theorem dX1_goOn_100 : decode cX1_goOn 100 = .ok (.iconst 1, 1) := by decide +kernel
theorem dX1_goOn_101 : decode cX1_goOn 101 = .ok (.iadd, 1) := by decide +kernel
theorem dX1_goOn_102 : decode cX1_goOn 102 = .ok (.iload_n 3, 1) := by decide +kernel
theorem dX1_goOn_103 : decode cX1_goOn 103 = .ok (.invokevirtual 97, 3) := by decide +kernel
theorem dX1_goOn_106 : decode cX1_goOn 106 = .ok (.goto 5, 3) := by decide +kernel
theorem dX1_goOn_109 : decode cX1_goOn 109 = .ok (.iconst 2, 1) := by decide +kernel
theorem dX1_goOn_110 : decode cX1_goOn 110 = .ok (.ireturn, 1) := by decide +kernel
theorem dX1_goOn_111 : decode cX1_goOn 111 = .ok (.aload_n 0, 1) := by decide +kernel
theorem dX1_goOn_112 : decode cX1_goOn 112 = .ok (.dup, 1) := by decide +kernel
theorem dX1_goOn_113 : decode cX1_goOn 113 = .ok (.getfield 91, 3) := by decide +kernel
theorem dX1_goOn_116 : decode cX1_goOn 116 = .ok (.iconst 1, 1) := by decide +kernel
theorem dX1_goOn_117 : decode cX1_goOn 117 = .ok (.iadd, 1) := by decide +kernel
theorem dX1_goOn_118 : decode cX1_goOn 118 = .ok (.putfield 91, 3) := by decide +kernel
theorem dX1_goOn_121 : decode cX1_goOn 121 = .ok (.goto (-121), 3) := by decide +kernel
theorem dX1_goOn_124 : decode cX1_goOn 124 = .ok (.iconst 1, 1) := by decide +kernel
theorem dX1_goOn_125 : decode cX1_goOn 125 = .ok (.ireturn, 1) := by decide +kernel
theorem dX1_beforeNot_0 : decode cX1_beforeNot 0 = .ok (.iconst 0, 1) := by decide +kernel
theorem dX1_beforeNot_1 : decode cX1_beforeNot 1 = .ok (.istore_n 2, 1) := by decide +kernel
theorem dX1_beforeNot_2 : decode cX1_beforeNot 2 = .ok (.iconst 0, 1) := by decide +kernel
theorem dX1_beforeNot_3 : decode cX1_beforeNot 3 = .ok (.istore_n 3, 1) := by decide +kernel
theorem dX1_beforeNot_4 : decode cX1_beforeNot 4 = .ok (.iload_n 3, 1) := by decide +kernel
theorem dX1_beforeNot_5 : decode cX1_beforeNot 5 = .ok (.iconst 3, 1) := by decide +kernel
theorem dX1_beforeNot_6 : decode cX1_beforeNot 6 = .ok (.if_icmp .ge 31, 3) := by decide +kernel
theorem dX1_beforeNot_9 : decode cX1_beforeNot 9 = .ok (.aload_n 0, 1) := by decide +kernel
theorem dX1_beforeNot_10 : decode cX1_beforeNot 10 = .ok (.iload_n 3, 1) := by decide +kernel
theorem dX1_beforeNot_11 : decode cX1_beforeNot 11 = .ok (.invokevirtual 81, 3) := by decide +kernel
theorem dX1_beforeNot_14 : decode cX1_beforeNot 14 = .ok (.istore 4, 2) := by decide +kernel
theorem dX1_beforeNot_16 : decode cX1_beforeNot 16 = .ok (.iload_n 1, 1) := by decide +kernel
theorem dX1_beforeNot_17 : decode cX1_beforeNot 17 = .ok (.iload 4, 2) := by decide +kernel
theorem dX1_beforeNot_19 : decode cX1_beforeNot 19 = .ok (.ishr, 1) := by decide +kernel
theorem dX1_beforeNot_20 : decode cX1_beforeNot 20 = .ok (.iconst 1, 1) := by decide +kernel
theorem dX1_beforeNot_21 : decode cX1_beforeNot 21 = .ok (.iand, 1) := by decide +kernel
theorem dX1_beforeNot_22 : decode cX1_beforeNot 22 = .ok (.ifCond .eq 9, 3) := by decide +kernel
theorem dX1_beforeNot_25 : decode cX1_beforeNot 25 = .ok (.iload_n 2, 1) := by decide +kernel
theorem dX1_beforeNot_26 : decode cX1_beforeNot 26 = .ok (.iconst 1, 1) := by decide +kernel
theorem dX1_beforeNot_27 : decode cX1_beforeNot 27 = .ok (.iload_n 3, 1) := by decide +kernel
theorem dX1_beforeNot_28 : decode cX1_beforeNot 28 = .ok (.ishl, 1) := by decide +kernel
theorem dX1_beforeNot_29 : decode cX1_beforeNot 29 = .ok (.ior, 1) := by decide +kernel
theorem dX1_beforeNot_30 : decode cX1_beforeNot 30 = .ok (.istore_n 2, 1) := by decide +kernel
theorem dX1_beforeNot_31 : decode cX1_beforeNot 31 = .ok (.iinc 3 1, 3) := by decide +kernel
theorem dX1_beforeNot_34 : decode cX1_beforeNot 34 = .ok (.goto (-30), 3) := by decide +kernel
theorem dX1_beforeNot_37 : decode cX1_beforeNot 37 = .ok (.iload_n 2, 1) := by decide +kernel
theorem dX1_beforeNot_38 : decode cX1_beforeNot 38 = .ok (.ireturn, 1) := by decide +kernel
theorem dX1_open_0 : decode cX1_open 0 = .ok (.aload_n 0, 1) := by decide +kernel
end
section
set_option maxRecDepth 100000
theorem dX1_open_1 : decode cX1_open 1 = .ok (.getfield 34, 3) := by decide +kernel
theorem dX1_open_4 : decode cX1_open 4 = .ok (.iload_n 1, 1) := by decide +kernel
theorem dX1_open_5 : decode cX1_open 5 = .ok (.aload_n 0, 1) := by decide +kernel
theorem dX1_open_6 : decode cX1_open 6 = .ok (.getfield 88, 3) := by decide +kernel
theorem dX1_open_9 : decode cX1_open 9 = .ok (.i2b, 1) := by decide +kernel
theorem dX1_open_10 : decode cX1_open 10 = .ok (.bastore, 1) := by decide +kernel
theorem dX1_open_11 : decode cX1_open 11 = .ok (.aload_n 0, 1) := by decide +kernel
theorem dX1_open_12 : decode cX1_open 12 = .ok (.getfield 37, 3) := by decide +kernel
theorem dX1_open_15 : decode cX1_open 15 = .ok (.iload_n 1, 1) := by decide +kernel
theorem dX1_open_16 : decode cX1_open 16 = .ok (.aload_n 0, 1) := by decide +kernel
theorem dX1_open_17 : decode cX1_open 17 = .ok (.getfield 91, 3) := by decide +kernel
theorem dX1_open_20 : decode cX1_open 20 = .ok (.i2b, 1) := by decide +kernel
theorem dX1_open_21 : decode cX1_open 21 = .ok (.bastore, 1) := by decide +kernel
theorem dX1_open_22 : decode cX1_open 22 = .ok (.aload_n 0, 1) := by decide +kernel
theorem dX1_open_23 : decode cX1_open 23 = .ok (.getfield 43, 3) := by decide +kernel
theorem dX1_open_26 : decode cX1_open 26 = .ok (.iload_n 1, 1) := by decide +kernel
theorem dX1_open_27 : decode cX1_open 27 = .ok (.iconst (-1), 1) := by decide +kernel
theorem dX1_open_28 : decode cX1_open 28 = .ok (.bastore, 1) := by decide +kernel
theorem dX1_open_29 : decode cX1_open 29 = .ok (.iconst 0, 1) := by decide +kernel
theorem dX1_open_30 : decode cX1_open 30 = .ok (.istore_n 2, 1) := by decide +kernel
theorem dX1_open_31 : decode cX1_open 31 = .ok (.iload_n 2, 1) := by decide +kernel
theorem dX1_open_32 : decode cX1_open 32 = .ok (.iconst 4, 1) := by decide +kernel
theorem dX1_open_33 : decode cX1_open 33 = .ok (.if_icmp .ge 25, 3) := by decide +kernel
theorem dX1_open_36 : decode cX1_open 36 = .ok (.aload_n 0, 1) := by decide +kernel
theorem dX1_open_37 : decode cX1_open 37 = .ok (.getfield 40, 3) := by decide +kernel
theorem dX1_open_40 : decode cX1_open 40 = .ok (.iload_n 1, 1) := by decide +kernel
theorem dX1_open_41 : decode cX1_open 41 = .ok (.iconst 4, 1) := by decide +kernel
theorem dX1_open_42 : decode cX1_open 42 = .ok (.imul, 1) := by decide +kernel
theorem dX1_open_43 : decode cX1_open 43 = .ok (.iload_n 2, 1) := by decide +kernel
theorem dX1_open_44 : decode cX1_open 44 = .ok (.iadd, 1) := by decide +kernel
theorem dX1_open_45 : decode cX1_open 45 = .ok (.aload_n 0, 1) := by decide +kernel
theorem dX1_open_46 : decode cX1_open 46 = .ok (.getfield 31, 3) := by decide +kernel
theorem dX1_open_49 : decode cX1_open 49 = .ok (.iload_n 2, 1) := by decide +kernel
theorem dX1_open_50 : decode cX1_open 50 = .ok (.baload, 1) := by decide +kernel
theorem dX1_open_51 : decode cX1_open 51 = .ok (.bastore, 1) := by decide +kernel
theorem dX1_open_52 : decode cX1_open 52 = .ok (.iinc 2 1, 3) := by decide +kernel
theorem dX1_open_55 : decode cX1_open 55 = .ok (.goto (-24), 3) := by decide +kernel
theorem dX1_open_58 : decode cX1_open 58 = .ok (.return_, 1) := by decide +kernel
theorem dX1_nextTurn_0 : decode cX1_nextTurn 0 = .ok (.aload_n 0, 1) := by decide +kernel
theorem dX1_nextTurn_1 : decode cX1_nextTurn 1 = .ok (.aload_n 0, 1) := by decide +kernel
theorem dX1_nextTurn_2 : decode cX1_nextTurn 2 = .ok (.getfield 34, 3) := by decide +kernel
theorem dX1_nextTurn_5 : decode cX1_nextTurn 5 = .ok (.iload_n 1, 1) := by decide +kernel
theorem dX1_nextTurn_6 : decode cX1_nextTurn 6 = .ok (.baload, 1) := by decide +kernel
theorem dX1_nextTurn_7 : decode cX1_nextTurn 7 = .ok (.putfield 88, 3) := by decide +kernel
theorem dX1_nextTurn_10 : decode cX1_nextTurn 10 = .ok (.aload_n 0, 1) := by decide +kernel
theorem dX1_nextTurn_11 : decode cX1_nextTurn 11 = .ok (.aload_n 0, 1) := by decide +kernel
theorem dX1_nextTurn_12 : decode cX1_nextTurn 12 = .ok (.getfield 37, 3) := by decide +kernel
theorem dX1_nextTurn_15 : decode cX1_nextTurn 15 = .ok (.iload_n 1, 1) := by decide +kernel
theorem dX1_nextTurn_16 : decode cX1_nextTurn 16 = .ok (.baload, 1) := by decide +kernel
theorem dX1_nextTurn_17 : decode cX1_nextTurn 17 = .ok (.putfield 91, 3) := by decide +kernel
theorem dX1_nextTurn_20 : decode cX1_nextTurn 20 = .ok (.iconst 0, 1) := by decide +kernel
theorem dX1_nextTurn_21 : decode cX1_nextTurn 21 = .ok (.istore_n 2, 1) := by decide +kernel
theorem dX1_nextTurn_22 : decode cX1_nextTurn 22 = .ok (.iload_n 2, 1) := by decide +kernel
theorem dX1_nextTurn_23 : decode cX1_nextTurn 23 = .ok (.iconst 4, 1) := by decide +kernel
theorem dX1_nextTurn_24 : decode cX1_nextTurn 24 = .ok (.if_icmp .ge 25, 3) := by decide +kernel
theorem dX1_nextTurn_27 : decode cX1_nextTurn 27 = .ok (.aload_n 0, 1) := by decide +kernel
theorem dX1_nextTurn_28 : decode cX1_nextTurn 28 = .ok (.getfield 31, 3) := by decide +kernel
theorem dX1_nextTurn_31 : decode cX1_nextTurn 31 = .ok (.iload_n 2, 1) := by decide +kernel
theorem dX1_nextTurn_32 : decode cX1_nextTurn 32 = .ok (.aload_n 0, 1) := by decide +kernel
theorem dX1_nextTurn_33 : decode cX1_nextTurn 33 = .ok (.getfield 40, 3) := by decide +kernel
theorem dX1_nextTurn_36 : decode cX1_nextTurn 36 = .ok (.iload_n 1, 1) := by decide +kernel
theorem dX1_nextTurn_37 : decode cX1_nextTurn 37 = .ok (.iconst 4, 1) := by decide +kernel
theorem dX1_nextTurn_38 : decode cX1_nextTurn 38 = .ok (.imul, 1) := by decide +kernel
theorem dX1_nextTurn_39 : decode cX1_nextTurn 39 = .ok (.iload_n 2, 1) := by decide +kernel
theorem dX1_nextTurn_40 : decode cX1_nextTurn 40 = .ok (.iadd, 1) := by decide +kernel
theorem dX1_nextTurn_41 : decode cX1_nextTurn 41 = .ok (.baload, 1) := by decide +kernel
theorem dX1_nextTurn_42 : decode cX1_nextTurn 42 = .ok (.bastore, 1) := by decide +kernel
theorem dX1_nextTurn_43 : decode cX1_nextTurn 43 = .ok (.iinc 2 1, 3) := by decide +kernel
theorem dX1_nextTurn_46 : decode cX1_nextTurn 46 = .ok (.goto (-24), 3) := by decide +kernel
theorem dX1_nextTurn_49 : decode cX1_nextTurn 49 = .ok (.aload_n 0, 1) := by decide +kernel
theorem dX1_nextTurn_50 : decode cX1_nextTurn 50 = .ok (.getfield 25, 3) := by decide +kernel
theorem dX1_nextTurn_53 : decode cX1_nextTurn 53 = .ok (.aload_n 0, 1) := by decide +kernel
theorem dX1_nextTurn_54 : decode cX1_nextTurn 54 = .ok (.getfield 91, 3) := by decide +kernel
theorem dX1_nextTurn_57 : decode cX1_nextTurn 57 = .ok (.baload, 1) := by decide +kernel
theorem dX1_nextTurn_58 : decode cX1_nextTurn 58 = .ok (.istore_n 2, 1) := by decide +kernel
theorem dX1_nextTurn_59 : decode cX1_nextTurn 59 = .ok (.aload_n 0, 1) := by decide +kernel
theorem dX1_nextTurn_60 : decode cX1_nextTurn 60 = .ok (.getfield 43, 3) := by decide +kernel
theorem dX1_nextTurn_63 : decode cX1_nextTurn 63 = .ok (.iload_n 1, 1) := by decide +kernel
theorem dX1_nextTurn_64 : decode cX1_nextTurn 64 = .ok (.baload, 1) := by decide +kernel
theorem dX1_nextTurn_65 : decode cX1_nextTurn 65 = .ok (.iconst 1, 1) := by decide +kernel
theorem dX1_nextTurn_66 : decode cX1_nextTurn 66 = .ok (.iadd, 1) := by decide +kernel
theorem dX1_nextTurn_67 : decode cX1_nextTurn 67 = .ok (.istore_n 3, 1) := by decide +kernel
theorem dX1_nextTurn_68 : decode cX1_nextTurn 68 = .ok (.iload_n 3, 1) := by decide +kernel
theorem dX1_nextTurn_69 : decode cX1_nextTurn 69 = .ok (.iconst 3, 1) := by decide +kernel
theorem dX1_nextTurn_70 : decode cX1_nextTurn 70 = .ok (.if_icmp .ge 78, 3) := by decide +kernel
theorem dX1_nextTurn_73 : decode cX1_nextTurn 73 = .ok (.aload_n 0, 1) := by decide +kernel
theorem dX1_nextTurn_74 : decode cX1_nextTurn 74 = .ok (.aload_n 0, 1) := by decide +kernel
theorem dX1_nextTurn_75 : decode cX1_nextTurn 75 = .ok (.getfield 7, 3) := by decide +kernel
theorem dX1_nextTurn_78 : decode cX1_nextTurn 78 = .ok (.iload_n 2, 1) := by decide +kernel
theorem dX1_nextTurn_79 : decode cX1_nextTurn 79 = .ok (.baload, 1) := by decide +kernel
theorem dX1_nextTurn_80 : decode cX1_nextTurn 80 = .ok (.iload_n 3, 1) := by decide +kernel
theorem dX1_nextTurn_81 : decode cX1_nextTurn 81 = .ok (.aload_n 0, 1) := by decide +kernel
theorem dX1_nextTurn_82 : decode cX1_nextTurn 82 = .ok (.getfield 28, 3) := by decide +kernel
theorem dX1_nextTurn_85 : decode cX1_nextTurn 85 = .ok (.aload_n 0, 1) := by decide +kernel
theorem dX1_nextTurn_86 : decode cX1_nextTurn 86 = .ok (.getfield 91, 3) := by decide +kernel
theorem dX1_nextTurn_89 : decode cX1_nextTurn 89 = .ok (.baload, 1) := by decide +kernel
theorem dX1_nextTurn_90 : decode cX1_nextTurn 90 = .ok (.invokevirtual 118, 3) := by decide +kernel
theorem dX1_nextTurn_93 : decode cX1_nextTurn 93 = .ok (.istore 4, 2) := by decide +kernel
theorem dX1_nextTurn_95 : decode cX1_nextTurn 95 = .ok (.iload 4, 2) := by decide +kernel
theorem dX1_nextTurn_97 : decode cX1_nextTurn 97 = .ok (.ifCond .eq 45, 3) := by decide +kernel
theorem dX1_nextTurn_100 : decode cX1_nextTurn 100 = .ok (.aload_n 0, 1) := by decide +kernel
theorem dX1_nextTurn_101 : decode cX1_nextTurn 101 = .ok (.getfield 43, 3) := by decide +kernel
theorem dX1_nextTurn_104 : decode cX1_nextTurn 104 = .ok (.iload_n 1, 1) := by decide +kernel
theorem dX1_nextTurn_105 : decode cX1_nextTurn 105 = .ok (.iload_n 3, 1) := by decide +kernel
theorem dX1_nextTurn_106 : decode cX1_nextTurn 106 = .ok (.i2b, 1) := by decide +kernel
theorem dX1_nextTurn_107 : decode cX1_nextTurn 107 = .ok (.bastore, 1) := by decide +kernel
theorem dX1_nextTurn_108 : decode cX1_nextTurn 108 = .ok (.aload_n 0, 1) := by decide +kernel
theorem dX1_nextTurn_109 : decode cX1_nextTurn 109 = .ok (.iload_n 2, 1) := by decide +kernel
theorem dX1_nextTurn_110 : decode cX1_nextTurn 110 = .ok (.iconst 1, 1) := by decide +kernel
theorem dX1_nextTurn_111 : decode cX1_nextTurn 111 = .ok (.iadd, 1) := by decide +kernel
theorem dX1_nextTurn_112 : decode cX1_nextTurn 112 = .ok (.iconst 1, 1) := by decide +kernel
theorem dX1_nextTurn_113 : decode cX1_nextTurn 113 = .ok (.iload_n 3, 1) := by decide +kernel
theorem dX1_nextTurn_114 : decode cX1_nextTurn 114 = .ok (.ishl, 1) := by decide +kernel
theorem dX1_nextTurn_115 : decode cX1_nextTurn 115 = .ok (.invokevirtual 97, 3) := by decide +kernel
theorem dX1_nextTurn_118 : decode cX1_nextTurn 118 = .ok (.aload_n 0, 1) := by decide +kernel
theorem dX1_nextTurn_119 : decode cX1_nextTurn 119 = .ok (.aload_n 0, 1) := by decide +kernel
theorem dX1_nextTurn_120 : decode cX1_nextTurn 120 = .ok (.getfield 16, 3) := by decide +kernel
theorem dX1_nextTurn_123 : decode cX1_nextTurn 123 = .ok (.iload_n 2, 1) := by decide +kernel
theorem dX1_nextTurn_124 : decode cX1_nextTurn 124 = .ok (.baload, 1) := by decide +kernel
theorem dX1_nextTurn_125 : decode cX1_nextTurn 125 = .ok (.iload 4, 2) := by decide +kernel
theorem dX1_nextTurn_127 : decode cX1_nextTurn 127 = .ok (.invokevirtual 97, 3) := by decide +kernel
theorem dX1_nextTurn_130 : decode cX1_nextTurn 130 = .ok (.aload_n 0, 1) := by decide +kernel
theorem dX1_nextTurn_131 : decode cX1_nextTurn 131 = .ok (.dup, 1) := by decide +kernel
theorem dX1_nextTurn_132 : decode cX1_nextTurn 132 = .ok (.getfield 91, 3) := by decide +kernel
theorem dX1_nextTurn_135 : decode cX1_nextTurn 135 = .ok (.iconst 1, 1) := by decide +kernel
theorem dX1_nextTurn_136 : decode cX1_nextTurn 136 = .ok (.iadd, 1) := by decide +kernel
theorem dX1_nextTurn_137 : decode cX1_nextTurn 137 = .ok (.putfield 91, 3) := by decide +kernel
theorem dX1_nextTurn_140 : decode cX1_nextTurn 140 = .ok (.iconst 1, 1) := by decide +kernel
theorem dX1_nextTurn_141 : decode cX1_nextTurn 141 = .ok (.ireturn, 1) := by decide +kernel
theorem dX1_nextTurn_142 : decode cX1_nextTurn 142 = .ok (.iinc 3 1, 3) := by decide +kernel
theorem dX1_nextTurn_145 : decode cX1_nextTurn 145 = .ok (.goto (-77), 3) := by decide +kernel
theorem dX1_nextTurn_148 : decode cX1_nextTurn 148 = .ok (.iconst 0, 1) := by decide +kernel
theorem dX1_nextTurn_149 : decode cX1_nextTurn 149 = .ok (.ireturn, 1) := by decide +kernel
theorem dX1_partners_0 : decode cX1_partners 0 = .ok (.iconst 0, 1) := by decide +kernel
theorem dX1_partners_1 : decode cX1_partners 1 = .ok (.istore 4, 2) := by decide +kernel
theorem dX1_partners_3 : decode cX1_partners 3 = .ok (.iconst 0, 1) := by decide +kernel
theorem dX1_partners_4 : decode cX1_partners 4 = .ok (.istore 5, 2) := by decide +kernel
theorem dX1_partners_6 : decode cX1_partners 6 = .ok (.iload 5, 2) := by decide +kernel
theorem dX1_partners_8 : decode cX1_partners 8 = .ok (.iconst 3, 1) := by decide +kernel
theorem dX1_partners_9 : decode cX1_partners 9 = .ok (.if_icmp .ge 37, 3) := by decide +kernel
theorem dX1_partners_12 : decode cX1_partners 12 = .ok (.aload_n 0, 1) := by decide +kernel
theorem dX1_partners_13 : decode cX1_partners 13 = .ok (.iload_n 1, 1) := by decide +kernel
theorem dX1_partners_14 : decode cX1_partners 14 = .ok (.iload_n 2, 1) := by decide +kernel
theorem dX1_partners_15 : decode cX1_partners 15 = .ok (.iload 5, 2) := by decide +kernel
theorem dX1_partners_17 : decode cX1_partners 17 = .ok (.invokevirtual 84, 3) := by decide +kernel
theorem dX1_partners_20 : decode cX1_partners 20 = .ok (.istore 6, 2) := by decide +kernel
theorem dX1_partners_22 : decode cX1_partners 22 = .ok (.iload_n 3, 1) := by decide +kernel
theorem dX1_partners_23 : decode cX1_partners 23 = .ok (.iload 6, 2) := by decide +kernel
theorem dX1_partners_25 : decode cX1_partners 25 = .ok (.ishr, 1) := by decide +kernel
theorem dX1_partners_26 : decode cX1_partners 26 = .ok (.iconst 1, 1) := by decide +kernel
theorem dX1_partners_27 : decode cX1_partners 27 = .ok (.iand, 1) := by decide +kernel
theorem dX1_partners_28 : decode cX1_partners 28 = .ok (.ifCond .eq 12, 3) := by decide +kernel
theorem dX1_partners_31 : decode cX1_partners 31 = .ok (.iload 4, 2) := by decide +kernel
theorem dX1_partners_33 : decode cX1_partners 33 = .ok (.iconst 1, 1) := by decide +kernel
theorem dX1_partners_34 : decode cX1_partners 34 = .ok (.iload 5, 2) := by decide +kernel
theorem dX1_partners_36 : decode cX1_partners 36 = .ok (.ishl, 1) := by decide +kernel
theorem dX1_partners_37 : decode cX1_partners 37 = .ok (.ior, 1) := by decide +kernel
theorem dX1_partners_38 : decode cX1_partners 38 = .ok (.istore 4, 2) := by decide +kernel
theorem dX1_partners_40 : decode cX1_partners 40 = .ok (.iinc 5 1, 3) := by decide +kernel
theorem dX1_partners_43 : decode cX1_partners 43 = .ok (.goto (-37), 3) := by decide +kernel
theorem dX1_partners_46 : decode cX1_partners 46 = .ok (.iload 4, 2) := by decide +kernel
theorem dX1_partners_48 : decode cX1_partners 48 = .ok (.ireturn, 1) := by decide +kernel
theorem dX1_leastValue_0 : decode cX1_leastValue 0 = .ok (.aload_n 0, 1) := by decide +kernel
theorem dX1_leastValue_1 : decode cX1_leastValue 1 = .ok (.getfield 46, 3) := by decide +kernel
theorem dX1_leastValue_4 : decode cX1_leastValue 4 = .ok (.iload_n 1, 1) := by decide +kernel
theorem dX1_leastValue_5 : decode cX1_leastValue 5 = .ok (.baload, 1) := by decide +kernel
theorem dX1_leastValue_6 : decode cX1_leastValue 6 = .ok (.istore_n 2, 1) := by decide +kernel
theorem dX1_leastValue_7 : decode cX1_leastValue 7 = .ok (.iconst 0, 1) := by decide +kernel
theorem dX1_leastValue_8 : decode cX1_leastValue 8 = .ok (.istore_n 3, 1) := by decide +kernel
theorem dX1_leastValue_9 : decode cX1_leastValue 9 = .ok (.iload_n 3, 1) := by decide +kernel
theorem dX1_leastValue_10 : decode cX1_leastValue 10 = .ok (.iconst 3, 1) := by decide +kernel
theorem dX1_leastValue_11 : decode cX1_leastValue 11 = .ok (.if_icmp .ge 36, 3) := by decide +kernel
theorem dX1_leastValue_14 : decode cX1_leastValue 14 = .ok (.iload_n 2, 1) := by decide +kernel
theorem dX1_leastValue_15 : decode cX1_leastValue 15 = .ok (.iload_n 3, 1) := by decide +kernel
theorem dX1_leastValue_16 : decode cX1_leastValue 16 = .ok (.ishr, 1) := by decide +kernel
theorem dX1_leastValue_17 : decode cX1_leastValue 17 = .ok (.iconst 1, 1) := by decide +kernel
theorem dX1_leastValue_18 : decode cX1_leastValue 18 = .ok (.iand, 1) := by decide +kernel
theorem dX1_leastValue_19 : decode cX1_leastValue 19 = .ok (.ifCond .eq 22, 3) := by decide +kernel
theorem dX1_leastValue_22 : decode cX1_leastValue 22 = .ok (.aload_n 0, 1) := by decide +kernel
theorem dX1_leastValue_23 : decode cX1_leastValue 23 = .ok (.getfield 46, 3) := by decide +kernel
theorem dX1_leastValue_26 : decode cX1_leastValue 26 = .ok (.iload_n 1, 1) := by decide +kernel
theorem dX1_leastValue_27 : decode cX1_leastValue 27 = .ok (.iconst 1, 1) := by decide +kernel
theorem dX1_leastValue_28 : decode cX1_leastValue 28 = .ok (.iload_n 3, 1) := by decide +kernel
theorem dX1_leastValue_29 : decode cX1_leastValue 29 = .ok (.ishl, 1) := by decide +kernel
theorem dX1_leastValue_30 : decode cX1_leastValue 30 = .ok (.i2b, 1) := by decide +kernel
theorem dX1_leastValue_31 : decode cX1_leastValue 31 = .ok (.bastore, 1) := by decide +kernel
theorem dX1_leastValue_32 : decode cX1_leastValue 32 = .ok (.aload_n 0, 1) := by decide +kernel
theorem dX1_leastValue_33 : decode cX1_leastValue 33 = .ok (.invokevirtual 124, 3) := by decide +kernel
theorem dX1_leastValue_36 : decode cX1_leastValue 36 = .ok (.ifCond .eq 5, 3) := by decide +kernel
theorem dX1_leastValue_39 : decode cX1_leastValue 39 = .ok (.iload_n 3, 1) := by decide +kernel
theorem dX1_leastValue_40 : decode cX1_leastValue 40 = .ok (.ireturn, 1) := by decide +kernel
theorem dX1_leastValue_41 : decode cX1_leastValue 41 = .ok (.iinc 3 1, 3) := by decide +kernel
theorem dX1_leastValue_44 : decode cX1_leastValue 44 = .ok (.goto (-35), 3) := by decide +kernel
theorem dX1_leastValue_47 : decode cX1_leastValue 47 = .ok (.iconst 0, 1) := by decide +kernel
theorem dX1_leastValue_48 : decode cX1_leastValue 48 = .ok (.ireturn, 1) := by decide +kernel
theorem dX1_values_0 : decode cX1_values 0 = .ok (.aload_n 0, 1) := by decide +kernel
theorem dX1_values_1 : decode cX1_values 1 = .ok (.iload_n 1, 1) := by decide +kernel
theorem dX1_values_2 : decode cX1_values 2 = .ok (.invokevirtual 60, 3) := by decide +kernel
theorem dX1_values_5 : decode cX1_values 5 = .ok (.ifCond .ne 5, 3) := by decide +kernel
theorem dX1_values_8 : decode cX1_values 8 = .ok (.iconst 0, 1) := by decide +kernel
theorem dX1_values_9 : decode cX1_values 9 = .ok (.ireturn, 1) := by decide +kernel
theorem dX1_values_10 : decode cX1_values 10 = .ok (.iconst 0, 1) := by decide +kernel
theorem dX1_values_11 : decode cX1_values 11 = .ok (.istore_n 2, 1) := by decide +kernel
theorem dX1_values_12 : decode cX1_values 12 = .ok (.iconst 0, 1) := by decide +kernel
theorem dX1_values_13 : decode cX1_values 13 = .ok (.istore_n 3, 1) := by decide +kernel
theorem dX1_values_14 : decode cX1_values 14 = .ok (.iload_n 3, 1) := by decide +kernel
theorem dX1_values_15 : decode cX1_values 15 = .ok (.iconst 3, 1) := by decide +kernel
theorem dX1_values_16 : decode cX1_values 16 = .ok (.if_icmp .ge 30, 3) := by decide +kernel
theorem dX1_values_19 : decode cX1_values 19 = .ok (.aload_n 0, 1) := by decide +kernel
theorem dX1_values_20 : decode cX1_values 20 = .ok (.iload_n 1, 1) := by decide +kernel
theorem dX1_values_21 : decode cX1_values 21 = .ok (.iconst 1, 1) := by decide +kernel
theorem dX1_values_22 : decode cX1_values 22 = .ok (.iload_n 3, 1) := by decide +kernel
theorem dX1_values_23 : decode cX1_values 23 = .ok (.ishl, 1) := by decide +kernel
theorem dX1_values_24 : decode cX1_values 24 = .ok (.invokevirtual 134, 3) := by decide +kernel
theorem dX1_values_27 : decode cX1_values 27 = .ok (.aload_n 0, 1) := by decide +kernel
theorem dX1_values_28 : decode cX1_values 28 = .ok (.invokevirtual 124, 3) := by decide +kernel
theorem dX1_values_31 : decode cX1_values 31 = .ok (.ifCond .eq 9, 3) := by decide +kernel
theorem dX1_values_34 : decode cX1_values 34 = .ok (.iload_n 2, 1) := by decide +kernel
theorem dX1_values_35 : decode cX1_values 35 = .ok (.iconst 1, 1) := by decide +kernel
theorem dX1_values_36 : decode cX1_values 36 = .ok (.iload_n 3, 1) := by decide +kernel
theorem dX1_values_37 : decode cX1_values 37 = .ok (.ishl, 1) := by decide +kernel
theorem dX1_values_38 : decode cX1_values 38 = .ok (.ior, 1) := by decide +kernel
theorem dX1_values_39 : decode cX1_values 39 = .ok (.istore_n 2, 1) := by decide +kernel
theorem dX1_values_40 : decode cX1_values 40 = .ok (.iinc 3 1, 3) := by decide +kernel
theorem dX1_values_43 : decode cX1_values 43 = .ok (.goto (-29), 3) := by decide +kernel
theorem dX1_values_46 : decode cX1_values 46 = .ok (.iload_n 2, 1) := by decide +kernel
theorem dX1_values_47 : decode cX1_values 47 = .ok (.ireturn, 1) := by decide +kernel
theorem dX1_valid_0 : decode cX1_valid 0 = .ok (.aload_n 0, 1) := by decide +kernel
theorem dX1_valid_1 : decode cX1_valid 1 = .ok (.iload_n 1, 1) := by decide +kernel
theorem dX1_valid_2 : decode cX1_valid 2 = .ok (.invokevirtual 60, 3) := by decide +kernel
theorem dX1_valid_5 : decode cX1_valid 5 = .ok (.ifCond .ne 5, 3) := by decide +kernel
theorem dX1_valid_8 : decode cX1_valid 8 = .ok (.iconst 0, 1) := by decide +kernel
theorem dX1_valid_9 : decode cX1_valid 9 = .ok (.ireturn, 1) := by decide +kernel
theorem dX1_valid_10 : decode cX1_valid 10 = .ok (.aload_n 0, 1) := by decide +kernel
theorem dX1_valid_11 : decode cX1_valid 11 = .ok (.iload_n 1, 1) := by decide +kernel
theorem dX1_valid_12 : decode cX1_valid 12 = .ok (.iconst 3, 1) := by decide +kernel
theorem dX1_valid_13 : decode cX1_valid 13 = .ok (.invokevirtual 134, 3) := by decide +kernel
theorem dX1_valid_16 : decode cX1_valid 16 = .ok (.aload_n 0, 1) := by decide +kernel
theorem dX1_valid_17 : decode cX1_valid 17 = .ok (.invokevirtual 124, 3) := by decide +kernel
theorem dX1_valid_20 : decode cX1_valid 20 = .ok (.ifCond .ne 7, 3) := by decide +kernel
theorem dX1_valid_23 : decode cX1_valid 23 = .ok (.iconst 1, 1) := by decide +kernel
theorem dX1_valid_24 : decode cX1_valid 24 = .ok (.goto 4, 3) := by decide +kernel
theorem dX1_valid_27 : decode cX1_valid 27 = .ok (.iconst 0, 1) := by decide +kernel
theorem dX1_valid_28 : decode cX1_valid 28 = .ok (.ireturn, 1) := by decide +kernel
theorem dX1_findBoth_0 : decode cX1_findBoth 0 = .ok (.iload_n 1, 1) := by decide +kernel
theorem dX1_findBoth_1 : decode cX1_findBoth 1 = .ok (.invokestatic 131, 3) := by decide +kernel
theorem dX1_findBoth_4 : decode cX1_findBoth 4 = .ok (.ifCond .eq 17, 3) := by decide +kernel
theorem dX1_findBoth_7 : decode cX1_findBoth 7 = .ok (.iload_n 2, 1) := by decide +kernel
theorem dX1_findBoth_8 : decode cX1_findBoth 8 = .ok (.invokestatic 131, 3) := by decide +kernel
theorem dX1_findBoth_11 : decode cX1_findBoth 11 = .ok (.ifCond .eq 10, 3) := by decide +kernel
theorem dX1_findBoth_14 : decode cX1_findBoth 14 = .ok (.aload_n 0, 1) := by decide +kernel
theorem dX1_findBoth_15 : decode cX1_findBoth 15 = .ok (.invokevirtual 140, 3) := by decide +kernel
theorem dX1_findBoth_18 : decode cX1_findBoth 18 = .ok (.ifCond .ne 5, 3) := by decide +kernel
theorem dX1_findBoth_21 : decode cX1_findBoth 21 = .ok (.iconst (-1), 1) := by decide +kernel
theorem dX1_findBoth_22 : decode cX1_findBoth 22 = .ok (.ireturn, 1) := by decide +kernel
theorem dX1_findBoth_23 : decode cX1_findBoth 23 = .ok (.aload_n 0, 1) := by decide +kernel
theorem dX1_findBoth_24 : decode cX1_findBoth 24 = .ok (.iconst 1, 1) := by decide +kernel
theorem dX1_findBoth_25 : decode cX1_findBoth 25 = .ok (.iload_n 1, 1) := by decide +kernel
theorem dX1_findBoth_26 : decode cX1_findBoth 26 = .ok (.ishl, 1) := by decide +kernel
theorem dX1_findBoth_27 : decode cX1_findBoth 27 = .ok (.iconst 1, 1) := by decide +kernel
theorem dX1_findBoth_28 : decode cX1_findBoth 28 = .ok (.iload_n 2, 1) := by decide +kernel
theorem dX1_findBoth_29 : decode cX1_findBoth 29 = .ok (.ishl, 1) := by decide +kernel
theorem dX1_findBoth_30 : decode cX1_findBoth 30 = .ok (.invokevirtual 121, 3) := by decide +kernel
theorem dX1_findBoth_33 : decode cX1_findBoth 33 = .ok (.aload_n 0, 1) := by decide +kernel
theorem dX1_findBoth_34 : decode cX1_findBoth 34 = .ok (.invokevirtual 137, 3) := by decide +kernel
theorem dX1_findBoth_37 : decode cX1_findBoth 37 = .ok (.ireturn, 1) := by decide +kernel
theorem dX1_both_0 : decode cX1_both 0 = .ok (.aload_n 0, 1) := by decide +kernel
theorem dX1_both_1 : decode cX1_both 1 = .ok (.iconst 0, 1) := by decide +kernel
theorem dX1_both_2 : decode cX1_both 2 = .ok (.invokevirtual 60, 3) := by decide +kernel
theorem dX1_both_5 : decode cX1_both 5 = .ok (.ifCond .eq 15, 3) := by decide +kernel
theorem dX1_both_8 : decode cX1_both 8 = .ok (.aload_n 0, 1) := by decide +kernel
theorem dX1_both_9 : decode cX1_both 9 = .ok (.iconst 1, 1) := by decide +kernel
theorem dX1_both_10 : decode cX1_both 10 = .ok (.invokevirtual 60, 3) := by decide +kernel
theorem dX1_both_13 : decode cX1_both 13 = .ok (.ifCond .eq 7, 3) := by decide +kernel
theorem dX1_both_16 : decode cX1_both 16 = .ok (.iconst 1, 1) := by decide +kernel
theorem dX1_both_17 : decode cX1_both 17 = .ok (.goto 4, 3) := by decide +kernel
theorem dX1_both_20 : decode cX1_both 20 = .ok (.iconst 0, 1) := by decide +kernel
theorem dX1_both_21 : decode cX1_both 21 = .ok (.ireturn, 1) := by decide +kernel
theorem dX1_entails_0 : decode cX1_entails 0 = .ok (.aload_n 0, 1) := by decide +kernel
theorem dX1_entails_1 : decode cX1_entails 1 = .ok (.invokevirtual 140, 3) := by decide +kernel
theorem dX1_entails_4 : decode cX1_entails 4 = .ok (.ifCond .eq 16, 3) := by decide +kernel
theorem dX1_entails_7 : decode cX1_entails 7 = .ok (.aload_n 0, 1) := by decide +kernel
theorem dX1_entails_8 : decode cX1_entails 8 = .ok (.iconst 4, 1) := by decide +kernel
theorem dX1_entails_9 : decode cX1_entails 9 = .ok (.iconst 3, 1) := by decide +kernel
theorem dX1_entails_10 : decode cX1_entails 10 = .ok (.invokevirtual 143, 3) := by decide +kernel
theorem dX1_entails_13 : decode cX1_entails 13 = .ok (.ifCond .eq 7, 3) := by decide +kernel
theorem dX1_entails_16 : decode cX1_entails 16 = .ok (.iconst 1, 1) := by decide +kernel
theorem dX1_entails_17 : decode cX1_entails 17 = .ok (.goto 4, 3) := by decide +kernel
theorem dX1_entails_20 : decode cX1_entails 20 = .ok (.iconst 0, 1) := by decide +kernel
theorem dX1_entails_21 : decode cX1_entails 21 = .ok (.ireturn, 1) := by decide +kernel
theorem dX1_never_0 : decode cX1_never 0 = .ok (.aload_n 0, 1) := by decide +kernel
theorem dX1_never_1 : decode cX1_never 1 = .ok (.iload_n 1, 1) := by decide +kernel
theorem dX1_never_2 : decode cX1_never 2 = .ok (.iload_n 2, 1) := by decide +kernel
theorem dX1_never_3 : decode cX1_never 3 = .ok (.invokevirtual 121, 3) := by decide +kernel
theorem dX1_never_6 : decode cX1_never 6 = .ok (.aload_n 0, 1) := by decide +kernel
theorem dX1_never_7 : decode cX1_never 7 = .ok (.invokevirtual 124, 3) := by decide +kernel
theorem dX1_never_10 : decode cX1_never 10 = .ok (.ifCond .ne 7, 3) := by decide +kernel
theorem dX1_never_13 : decode cX1_never 13 = .ok (.iconst 1, 1) := by decide +kernel
theorem dX1_never_14 : decode cX1_never 14 = .ok (.goto 4, 3) := by decide +kernel
theorem dX1_never_17 : decode cX1_never 17 = .ok (.iconst 0, 1) := by decide +kernel
theorem dX1_never_18 : decode cX1_never 18 = .ok (.ireturn, 1) := by decide +kernel
theorem dX1_below_0 : decode cX1_below 0 = .ok (.aload_n 0, 1) := by decide +kernel
theorem dX1_below_1 : decode cX1_below 1 = .ok (.invokevirtual 140, 3) := by decide +kernel
theorem dX1_below_4 : decode cX1_below 4 = .ok (.ifCond .eq 25, 3) := by decide +kernel
theorem dX1_below_7 : decode cX1_below 7 = .ok (.aload_n 0, 1) := by decide +kernel
theorem dX1_below_8 : decode cX1_below 8 = .ok (.iconst 2, 1) := by decide +kernel
theorem dX1_below_9 : decode cX1_below 9 = .ok (.iconst 1, 1) := by decide +kernel
theorem dX1_below_10 : decode cX1_below 10 = .ok (.invokevirtual 143, 3) := by decide +kernel
theorem dX1_below_13 : decode cX1_below 13 = .ok (.ifCond .eq 16, 3) := by decide +kernel
theorem dX1_below_16 : decode cX1_below 16 = .ok (.aload_n 0, 1) := by decide +kernel
theorem dX1_below_17 : decode cX1_below 17 = .ok (.iconst 4, 1) := by decide +kernel
theorem dX1_below_18 : decode cX1_below 18 = .ok (.iconst 3, 1) := by decide +kernel
theorem dX1_below_19 : decode cX1_below 19 = .ok (.invokevirtual 143, 3) := by decide +kernel
theorem dX1_below_22 : decode cX1_below 22 = .ok (.ifCond .eq 7, 3) := by decide +kernel
theorem dX1_below_25 : decode cX1_below 25 = .ok (.iconst 1, 1) := by decide +kernel
theorem dX1_below_26 : decode cX1_below 26 = .ok (.goto 4, 3) := by decide +kernel
theorem dX1_below_29 : decode cX1_below 29 = .ok (.iconst 0, 1) := by decide +kernel
theorem dX1_below_30 : decode cX1_below 30 = .ok (.ireturn, 1) := by decide +kernel
theorem dX1_alike_0 : decode cX1_alike 0 = .ok (.aload_n 0, 1) := by decide +kernel
theorem dX1_alike_1 : decode cX1_alike 1 = .ok (.invokevirtual 140, 3) := by decide +kernel
theorem dX1_alike_4 : decode cX1_alike 4 = .ok (.ifCond .eq 35, 3) := by decide +kernel
theorem dX1_alike_7 : decode cX1_alike 7 = .ok (.aload_n 0, 1) := by decide +kernel
theorem dX1_alike_8 : decode cX1_alike 8 = .ok (.iconst 1, 1) := by decide +kernel
theorem dX1_alike_9 : decode cX1_alike 9 = .ok (.bipush 6, 2) := by decide +kernel
theorem dX1_alike_11 : decode cX1_alike 11 = .ok (.invokevirtual 143, 3) := by decide +kernel
theorem dX1_alike_14 : decode cX1_alike 14 = .ok (.ifCond .eq 25, 3) := by decide +kernel
theorem dX1_alike_17 : decode cX1_alike 17 = .ok (.aload_n 0, 1) := by decide +kernel
theorem dX1_alike_18 : decode cX1_alike 18 = .ok (.iconst 2, 1) := by decide +kernel
theorem dX1_alike_19 : decode cX1_alike 19 = .ok (.iconst 5, 1) := by decide +kernel
theorem dX1_alike_20 : decode cX1_alike 20 = .ok (.invokevirtual 143, 3) := by decide +kernel
theorem dX1_alike_23 : decode cX1_alike 23 = .ok (.ifCond .eq 16, 3) := by decide +kernel
theorem dX1_alike_26 : decode cX1_alike 26 = .ok (.aload_n 0, 1) := by decide +kernel
theorem dX1_alike_27 : decode cX1_alike 27 = .ok (.iconst 4, 1) := by decide +kernel
theorem dX1_alike_28 : decode cX1_alike 28 = .ok (.iconst 3, 1) := by decide +kernel
theorem dX1_alike_29 : decode cX1_alike 29 = .ok (.invokevirtual 143, 3) := by decide +kernel
theorem dX1_alike_32 : decode cX1_alike 32 = .ok (.ifCond .eq 7, 3) := by decide +kernel
theorem dX1_alike_35 : decode cX1_alike 35 = .ok (.iconst 1, 1) := by decide +kernel
theorem dX1_alike_36 : decode cX1_alike 36 = .ok (.goto 4, 3) := by decide +kernel
theorem dX1_alike_39 : decode cX1_alike 39 = .ok (.iconst 0, 1) := by decide +kernel
theorem dX1_alike_40 : decode cX1_alike 40 = .ok (.ireturn, 1) := by decide +kernel
theorem dX1_findApart_0 : decode cX1_findApart 0 = .ok (.iload_n 2, 1) := by decide +kernel
theorem dX1_findApart_1 : decode cX1_findApart 1 = .ok (.ifCond .lt 16, 3) := by decide +kernel
theorem dX1_findApart_4 : decode cX1_findApart 4 = .ok (.iload_n 2, 1) := by decide +kernel
theorem dX1_findApart_5 : decode cX1_findApart 5 = .ok (.iconst 4, 1) := by decide +kernel
theorem dX1_findApart_6 : decode cX1_findApart 6 = .ok (.if_icmp .ge 11, 3) := by decide +kernel
theorem dX1_findApart_9 : decode cX1_findApart 9 = .ok (.aload_n 0, 1) := by decide +kernel
theorem dX1_findApart_10 : decode cX1_findApart 10 = .ok (.iload_n 1, 1) := by decide +kernel
theorem dX1_findApart_11 : decode cX1_findApart 11 = .ok (.invokevirtual 60, 3) := by decide +kernel
theorem dX1_findApart_14 : decode cX1_findApart 14 = .ok (.ifCond .ne 5, 3) := by decide +kernel
theorem dX1_findApart_17 : decode cX1_findApart 17 = .ok (.iconst (-1), 1) := by decide +kernel
theorem dX1_findApart_18 : decode cX1_findApart 18 = .ok (.ireturn, 1) := by decide +kernel
theorem dX1_findApart_19 : decode cX1_findApart 19 = .ok (.iconst (-1), 1) := by decide +kernel
theorem dX1_findApart_20 : decode cX1_findApart 20 = .ok (.istore_n 3, 1) := by decide +kernel
theorem dX1_findApart_21 : decode cX1_findApart 21 = .ok (.iconst 0, 1) := by decide +kernel
theorem dX1_findApart_22 : decode cX1_findApart 22 = .ok (.istore 4, 2) := by decide +kernel
theorem dX1_findApart_24 : decode cX1_findApart 24 = .ok (.iload 4, 2) := by decide +kernel
theorem dX1_findApart_26 : decode cX1_findApart 26 = .ok (.iconst 3, 1) := by decide +kernel
theorem dX1_findApart_27 : decode cX1_findApart 27 = .ok (.if_icmp .ge 58, 3) := by decide +kernel
theorem dX1_findApart_30 : decode cX1_findApart 30 = .ok (.aload_n 0, 1) := by decide +kernel
theorem dX1_findApart_31 : decode cX1_findApart 31 = .ok (.iload_n 1, 1) := by decide +kernel
theorem dX1_findApart_32 : decode cX1_findApart 32 = .ok (.bipush 7, 2) := by decide +kernel
theorem dX1_findApart_34 : decode cX1_findApart 34 = .ok (.iconst 1, 1) := by decide +kernel
theorem dX1_findApart_35 : decode cX1_findApart 35 = .ok (.iload 4, 2) := by decide +kernel
theorem dX1_findApart_37 : decode cX1_findApart 37 = .ok (.ishl, 1) := by decide +kernel
theorem dX1_findApart_38 : decode cX1_findApart 38 = .ok (.iconst (-1), 1) := by decide +kernel
theorem dX1_findApart_39 : decode cX1_findApart 39 = .ok (.ixor, 1) := by decide +kernel
theorem dX1_findApart_40 : decode cX1_findApart 40 = .ok (.iand, 1) := by decide +kernel
theorem dX1_findApart_41 : decode cX1_findApart 41 = .ok (.invokevirtual 134, 3) := by decide +kernel
theorem dX1_findApart_44 : decode cX1_findApart 44 = .ok (.aload_n 0, 1) := by decide +kernel
theorem dX1_findApart_45 : decode cX1_findApart 45 = .ok (.getfield 46, 3) := by decide +kernel
theorem dX1_findApart_48 : decode cX1_findApart 48 = .ok (.iload_n 2, 1) := by decide +kernel
theorem dX1_findApart_49 : decode cX1_findApart 49 = .ok (.iconst 1, 1) := by decide +kernel
theorem dX1_findApart_50 : decode cX1_findApart 50 = .ok (.iload 4, 2) := by decide +kernel
theorem dX1_findApart_52 : decode cX1_findApart 52 = .ok (.ishl, 1) := by decide +kernel
theorem dX1_findApart_53 : decode cX1_findApart 53 = .ok (.i2b, 1) := by decide +kernel
theorem dX1_findApart_54 : decode cX1_findApart 54 = .ok (.bastore, 1) := by decide +kernel
theorem dX1_findApart_55 : decode cX1_findApart 55 = .ok (.aload_n 0, 1) := by decide +kernel
theorem dX1_findApart_56 : decode cX1_findApart 56 = .ok (.invokevirtual 137, 3) := by decide +kernel
theorem dX1_findApart_59 : decode cX1_findApart 59 = .ok (.istore 5, 2) := by decide +kernel
theorem dX1_findApart_61 : decode cX1_findApart 61 = .ok (.iload 5, 2) := by decide +kernel
theorem dX1_findApart_63 : decode cX1_findApart 63 = .ok (.ifCond .lt 16, 3) := by decide +kernel
theorem dX1_findApart_66 : decode cX1_findApart 66 = .ok (.iload_n 3, 1) := by decide +kernel
theorem dX1_findApart_67 : decode cX1_findApart 67 = .ok (.ifCond .lt 9, 3) := by decide +kernel
theorem dX1_findApart_70 : decode cX1_findApart 70 = .ok (.iload 5, 2) := by decide +kernel
theorem dX1_findApart_72 : decode cX1_findApart 72 = .ok (.iload_n 3, 1) := by decide +kernel
theorem dX1_findApart_73 : decode cX1_findApart 73 = .ok (.if_icmp .ge 6, 3) := by decide +kernel
theorem dX1_findApart_76 : decode cX1_findApart 76 = .ok (.iload 5, 2) := by decide +kernel
theorem dX1_findApart_78 : decode cX1_findApart 78 = .ok (.istore_n 3, 1) := by decide +kernel
theorem dX1_findApart_79 : decode cX1_findApart 79 = .ok (.iinc 4 1, 3) := by decide +kernel
theorem dX1_findApart_82 : decode cX1_findApart 82 = .ok (.goto (-58), 3) := by decide +kernel
theorem dX1_findApart_85 : decode cX1_findApart 85 = .ok (.iload_n 3, 1) := by decide +kernel
theorem dX1_findApart_86 : decode cX1_findApart 86 = .ok (.ireturn, 1) := by decide +kernel
end
section
set_option maxRecDepth 100000
theorem dX2_init_0 : decode cX2_init 0 = .ok (.aload_n 0, 1) := by decide +kernel
theorem dX2_init_1 : decode cX2_init 1 = .ok (.invokespecial 1, 3) := by decide +kernel
theorem dX2_init_4 : decode cX2_init 4 = .ok (.aload_n 0, 1) := by decide +kernel
theorem dX2_init_5 : decode cX2_init 5 = .ok (.iconst 2, 1) := by decide +kernel
theorem dX2_init_6 : decode cX2_init 6 = .ok (.newarray .int, 2) := by decide +kernel
theorem dX2_init_8 : decode cX2_init 8 = .ok (.putfield 7, 3) := by decide +kernel
theorem dX2_init_11 : decode cX2_init 11 = .ok (.aload_n 0, 1) := by decide +kernel
theorem dX2_init_12 : decode cX2_init 12 = .ok (.bipush 18, 2) := by decide +kernel
theorem dX2_init_14 : decode cX2_init 14 = .ok (.newarray .int, 2) := by decide +kernel
theorem dX2_init_16 : decode cX2_init 16 = .ok (.putfield 13, 3) := by decide +kernel
theorem dX2_init_19 : decode cX2_init 19 = .ok (.aload_n 0, 1) := by decide +kernel
theorem dX2_init_20 : decode cX2_init 20 = .ok (.bipush 10, 2) := by decide +kernel
theorem dX2_init_22 : decode cX2_init 22 = .ok (.newarray .int, 2) := by decide +kernel
theorem dX2_init_24 : decode cX2_init 24 = .ok (.putfield 16, 3) := by decide +kernel
theorem dX2_init_27 : decode cX2_init 27 = .ok (.aload_n 0, 1) := by decide +kernel
theorem dX2_init_28 : decode cX2_init 28 = .ok (.iload_n 1, 1) := by decide +kernel
theorem dX2_init_29 : decode cX2_init 29 = .ok (.ifCond .ge 7, 3) := by decide +kernel
theorem dX2_init_32 : decode cX2_init 32 = .ok (.iconst 0, 1) := by decide +kernel
theorem dX2_init_33 : decode cX2_init 33 = .ok (.goto 13, 3) := by decide +kernel
theorem dX2_init_36 : decode cX2_init 36 = .ok (.iload_n 1, 1) := by decide +kernel
theorem dX2_init_37 : decode cX2_init 37 = .ok (.iconst 2, 1) := by decide +kernel
theorem dX2_init_38 : decode cX2_init 38 = .ok (.if_icmp .le 7, 3) := by decide +kernel
theorem dX2_init_41 : decode cX2_init 41 = .ok (.iconst 2, 1) := by decide +kernel
theorem dX2_init_42 : decode cX2_init 42 = .ok (.goto 4, 3) := by decide +kernel
theorem dX2_init_45 : decode cX2_init 45 = .ok (.iload_n 1, 1) := by decide +kernel
theorem dX2_init_46 : decode cX2_init 46 = .ok (.putfield 19, 3) := by decide +kernel
theorem dX2_init_49 : decode cX2_init 49 = .ok (.return_, 1) := by decide +kernel
theorem dX2_logic_0 : decode cX2_logic 0 = .ok (.aload_n 0, 1) := by decide +kernel
theorem dX2_logic_1 : decode cX2_logic 1 = .ok (.getfield 19, 3) := by decide +kernel
theorem dX2_logic_4 : decode cX2_logic 4 = .ok (.ireturn, 1) := by decide +kernel
theorem dX2_setLogic_0 : decode cX2_setLogic 0 = .ok (.iload_n 1, 1) := by decide +kernel
theorem dX2_setLogic_1 : decode cX2_setLogic 1 = .ok (.ifCond .lt 8, 3) := by decide +kernel
theorem dX2_setLogic_4 : decode cX2_setLogic 4 = .ok (.iload_n 1, 1) := by decide +kernel
theorem dX2_setLogic_5 : decode cX2_setLogic 5 = .ok (.iconst 2, 1) := by decide +kernel
theorem dX2_setLogic_6 : decode cX2_setLogic 6 = .ok (.if_icmp .le 5, 3) := by decide +kernel
theorem dX2_setLogic_9 : decode cX2_setLogic 9 = .ok (.iconst 0, 1) := by decide +kernel
theorem dX2_setLogic_10 : decode cX2_setLogic 10 = .ok (.ireturn, 1) := by decide +kernel
theorem dX2_setLogic_11 : decode cX2_setLogic 11 = .ok (.aload_n 0, 1) := by decide +kernel
theorem dX2_setLogic_12 : decode cX2_setLogic 12 = .ok (.iload_n 1, 1) := by decide +kernel
theorem dX2_setLogic_13 : decode cX2_setLogic 13 = .ok (.putfield 19, 3) := by decide +kernel
theorem dX2_setLogic_16 : decode cX2_setLogic 16 = .ok (.iconst 1, 1) := by decide +kernel
theorem dX2_setLogic_17 : decode cX2_setLogic 17 = .ok (.ireturn, 1) := by decide +kernel
theorem dX2_feed_0 : decode cX2_feed 0 = .ok (.iload_n 1, 1) := by decide +kernel
theorem dX2_feed_1 : decode cX2_feed 1 = .ok (.ifCond .eq 8, 3) := by decide +kernel
theorem dX2_feed_4 : decode cX2_feed 4 = .ok (.iload_n 1, 1) := by decide +kernel
theorem dX2_feed_5 : decode cX2_feed 5 = .ok (.iconst 1, 1) := by decide +kernel
theorem dX2_feed_6 : decode cX2_feed 6 = .ok (.if_icmp .ne 32, 3) := by decide +kernel
theorem dX2_feed_9 : decode cX2_feed 9 = .ok (.iload_n 2, 1) := by decide +kernel
theorem dX2_feed_10 : decode cX2_feed 10 = .ok (.ifCond .lt 28, 3) := by decide +kernel
theorem dX2_feed_13 : decode cX2_feed 13 = .ok (.iload_n 2, 1) := by decide +kernel
theorem dX2_feed_14 : decode cX2_feed 14 = .ok (.bipush 7, 2) := by decide +kernel
theorem dX2_feed_16 : decode cX2_feed 16 = .ok (.if_icmp .gt 22, 3) := by decide +kernel
theorem dX2_feed_19 : decode cX2_feed 19 = .ok (.aload_n 0, 1) := by decide +kernel
theorem dX2_feed_20 : decode cX2_feed 20 = .ok (.iload_n 1, 1) := by decide +kernel
theorem dX2_feed_21 : decode cX2_feed 21 = .ok (.invokevirtual 23, 3) := by decide +kernel
theorem dX2_feed_24 : decode cX2_feed 24 = .ok (.ifCond .ne 14, 3) := by decide +kernel
theorem dX2_feed_27 : decode cX2_feed 27 = .ok (.aload_n 0, 1) := by decide +kernel
theorem dX2_feed_28 : decode cX2_feed 28 = .ok (.getfield 7, 3) := by decide +kernel
theorem dX2_feed_31 : decode cX2_feed 31 = .ok (.iload_n 1, 1) := by decide +kernel
theorem dX2_feed_32 : decode cX2_feed 32 = .ok (.iaload, 1) := by decide +kernel
theorem dX2_feed_33 : decode cX2_feed 33 = .ok (.bipush 9, 2) := by decide +kernel
theorem dX2_feed_35 : decode cX2_feed 35 = .ok (.if_icmp .lt 5, 3) := by decide +kernel
theorem dX2_feed_38 : decode cX2_feed 38 = .ok (.iconst (-1), 1) := by decide +kernel
theorem dX2_feed_39 : decode cX2_feed 39 = .ok (.ireturn, 1) := by decide +kernel
theorem dX2_feed_40 : decode cX2_feed 40 = .ok (.aload_n 0, 1) := by decide +kernel
theorem dX2_feed_41 : decode cX2_feed 41 = .ok (.getfield 13, 3) := by decide +kernel
theorem dX2_feed_44 : decode cX2_feed 44 = .ok (.bipush 9, 2) := by decide +kernel
theorem dX2_feed_46 : decode cX2_feed 46 = .ok (.iload_n 1, 1) := by decide +kernel
theorem dX2_feed_47 : decode cX2_feed 47 = .ok (.imul, 1) := by decide +kernel
theorem dX2_feed_48 : decode cX2_feed 48 = .ok (.aload_n 0, 1) := by decide +kernel
theorem dX2_feed_49 : decode cX2_feed 49 = .ok (.getfield 7, 3) := by decide +kernel
theorem dX2_feed_52 : decode cX2_feed 52 = .ok (.iload_n 1, 1) := by decide +kernel
theorem dX2_feed_53 : decode cX2_feed 53 = .ok (.iaload, 1) := by decide +kernel
theorem dX2_feed_54 : decode cX2_feed 54 = .ok (.iadd, 1) := by decide +kernel
theorem dX2_feed_55 : decode cX2_feed 55 = .ok (.iload_n 2, 1) := by decide +kernel
theorem dX2_feed_56 : decode cX2_feed 56 = .ok (.iastore, 1) := by decide +kernel
theorem dX2_feed_57 : decode cX2_feed 57 = .ok (.aload_n 0, 1) := by decide +kernel
theorem dX2_feed_58 : decode cX2_feed 58 = .ok (.getfield 7, 3) := by decide +kernel
theorem dX2_feed_61 : decode cX2_feed 61 = .ok (.iload_n 1, 1) := by decide +kernel
theorem dX2_feed_62 : decode cX2_feed 62 = .ok (.dup2, 1) := by decide +kernel
theorem dX2_feed_63 : decode cX2_feed 63 = .ok (.iaload, 1) := by decide +kernel
theorem dX2_feed_64 : decode cX2_feed 64 = .ok (.iconst 1, 1) := by decide +kernel
theorem dX2_feed_65 : decode cX2_feed 65 = .ok (.iadd, 1) := by decide +kernel
theorem dX2_feed_66 : decode cX2_feed 66 = .ok (.iastore, 1) := by decide +kernel
theorem dX2_feed_67 : decode cX2_feed 67 = .ok (.aload_n 0, 1) := by decide +kernel
theorem dX2_feed_68 : decode cX2_feed 68 = .ok (.getfield 7, 3) := by decide +kernel
theorem dX2_feed_71 : decode cX2_feed 71 = .ok (.iload_n 1, 1) := by decide +kernel
theorem dX2_feed_72 : decode cX2_feed 72 = .ok (.iaload, 1) := by decide +kernel
theorem dX2_feed_73 : decode cX2_feed 73 = .ok (.ireturn, 1) := by decide +kernel
theorem dX2_complete_0 : decode cX2_complete 0 = .ok (.iload_n 1, 1) := by decide +kernel
theorem dX2_complete_1 : decode cX2_complete 1 = .ok (.ifCond .eq 10, 3) := by decide +kernel
theorem dX2_complete_4 : decode cX2_complete 4 = .ok (.iload_n 1, 1) := by decide +kernel
theorem dX2_complete_5 : decode cX2_complete 5 = .ok (.iconst 1, 1) := by decide +kernel
theorem dX2_complete_6 : decode cX2_complete 6 = .ok (.if_icmp .eq 5, 3) := by decide +kernel
theorem dX2_complete_9 : decode cX2_complete 9 = .ok (.iconst 0, 1) := by decide +kernel
theorem dX2_complete_10 : decode cX2_complete 10 = .ok (.ireturn, 1) := by decide +kernel
theorem dX2_complete_11 : decode cX2_complete 11 = .ok (.iconst 1, 1) := by decide +kernel
theorem dX2_complete_12 : decode cX2_complete 12 = .ok (.istore_n 2, 1) := by decide +kernel
theorem dX2_complete_13 : decode cX2_complete 13 = .ok (.iconst 0, 1) := by decide +kernel
theorem dX2_complete_14 : decode cX2_complete 14 = .ok (.istore_n 3, 1) := by decide +kernel
theorem dX2_complete_15 : decode cX2_complete 15 = .ok (.iload_n 3, 1) := by decide +kernel
theorem dX2_complete_16 : decode cX2_complete 16 = .ok (.aload_n 0, 1) := by decide +kernel
theorem dX2_complete_17 : decode cX2_complete 17 = .ok (.getfield 7, 3) := by decide +kernel
theorem dX2_complete_20 : decode cX2_complete 20 = .ok (.iload_n 1, 1) := by decide +kernel
theorem dX2_complete_21 : decode cX2_complete 21 = .ok (.iaload, 1) := by decide +kernel
theorem dX2_complete_22 : decode cX2_complete 22 = .ok (.if_icmp .ge 47, 3) := by decide +kernel
theorem dX2_complete_25 : decode cX2_complete 25 = .ok (.aload_n 0, 1) := by decide +kernel
theorem dX2_complete_26 : decode cX2_complete 26 = .ok (.getfield 13, 3) := by decide +kernel
theorem dX2_complete_29 : decode cX2_complete 29 = .ok (.bipush 9, 2) := by decide +kernel
theorem dX2_complete_31 : decode cX2_complete 31 = .ok (.iload_n 1, 1) := by decide +kernel
theorem dX2_complete_32 : decode cX2_complete 32 = .ok (.imul, 1) := by decide +kernel
theorem dX2_complete_33 : decode cX2_complete 33 = .ok (.iload_n 3, 1) := by decide +kernel
theorem dX2_complete_34 : decode cX2_complete 34 = .ok (.iadd, 1) := by decide +kernel
theorem dX2_complete_35 : decode cX2_complete 35 = .ok (.iaload, 1) := by decide +kernel
theorem dX2_complete_36 : decode cX2_complete 36 = .ok (.istore 4, 2) := by decide +kernel
theorem dX2_complete_38 : decode cX2_complete 38 = .ok (.iload 4, 2) := by decide +kernel
theorem dX2_complete_40 : decode cX2_complete 40 = .ok (.ifCond .ne 7, 3) := by decide +kernel
theorem dX2_complete_43 : decode cX2_complete 43 = .ok (.iload_n 2, 1) := by decide +kernel
theorem dX2_complete_44 : decode cX2_complete 44 = .ok (.goto 18, 3) := by decide +kernel
theorem dX2_complete_47 : decode cX2_complete 47 = .ok (.iload 4, 2) := by decide +kernel
theorem dX2_complete_49 : decode cX2_complete 49 = .ok (.iconst 3, 1) := by decide +kernel
theorem dX2_complete_50 : decode cX2_complete 50 = .ok (.if_icmp .gt 9, 3) := by decide +kernel
theorem dX2_complete_53 : decode cX2_complete 53 = .ok (.iload_n 2, 1) := by decide +kernel
theorem dX2_complete_54 : decode cX2_complete 54 = .ok (.iconst 1, 1) := by decide +kernel
theorem dX2_complete_55 : decode cX2_complete 55 = .ok (.iadd, 1) := by decide +kernel
theorem dX2_complete_56 : decode cX2_complete 56 = .ok (.goto 6, 3) := by decide +kernel
theorem dX2_complete_59 : decode cX2_complete 59 = .ok (.iload_n 2, 1) := by decide +kernel
theorem dX2_complete_60 : decode cX2_complete 60 = .ok (.iconst 1, 1) := by decide +kernel
theorem dX2_complete_61 : decode cX2_complete 61 = .ok (.isub, 1) := by decide +kernel
theorem dX2_complete_62 : decode cX2_complete 62 = .ok (.istore_n 2, 1) := by decide +kernel
theorem dX2_complete_63 : decode cX2_complete 63 = .ok (.iinc 3 1, 3) := by decide +kernel
theorem dX2_complete_66 : decode cX2_complete 66 = .ok (.goto (-51), 3) := by decide +kernel
theorem dX2_complete_69 : decode cX2_complete 69 = .ok (.iload_n 2, 1) := by decide +kernel
theorem dX2_complete_70 : decode cX2_complete 70 = .ok (.ifCond .ne 7, 3) := by decide +kernel
theorem dX2_complete_73 : decode cX2_complete 73 = .ok (.iconst 1, 1) := by decide +kernel
theorem dX2_complete_74 : decode cX2_complete 74 = .ok (.goto 4, 3) := by decide +kernel
theorem dX2_complete_77 : decode cX2_complete 77 = .ok (.iconst 0, 1) := by decide +kernel
theorem dX2_complete_78 : decode cX2_complete 78 = .ok (.ireturn, 1) := by decide +kernel
theorem dX2_back_0 : decode cX2_back 0 = .ok (.iload_n 1, 1) := by decide +kernel
theorem dX2_back_1 : decode cX2_back 1 = .ok (.ifCond .eq 8, 3) := by decide +kernel
theorem dX2_back_4 : decode cX2_back 4 = .ok (.iload_n 1, 1) := by decide +kernel
theorem dX2_back_5 : decode cX2_back 5 = .ok (.iconst 1, 1) := by decide +kernel
theorem dX2_back_6 : decode cX2_back 6 = .ok (.if_icmp .ne 12, 3) := by decide +kernel
theorem dX2_back_9 : decode cX2_back 9 = .ok (.aload_n 0, 1) := by decide +kernel
theorem dX2_back_10 : decode cX2_back 10 = .ok (.getfield 7, 3) := by decide +kernel
theorem dX2_back_13 : decode cX2_back 13 = .ok (.iload_n 1, 1) := by decide +kernel
theorem dX2_back_14 : decode cX2_back 14 = .ok (.iaload, 1) := by decide +kernel
theorem dX2_back_15 : decode cX2_back 15 = .ok (.ifCond .ne 5, 3) := by decide +kernel
theorem dX2_back_18 : decode cX2_back 18 = .ok (.iconst (-1), 1) := by decide +kernel
theorem dX2_back_19 : decode cX2_back 19 = .ok (.ireturn, 1) := by decide +kernel
theorem dX2_back_20 : decode cX2_back 20 = .ok (.aload_n 0, 1) := by decide +kernel
theorem dX2_back_21 : decode cX2_back 21 = .ok (.getfield 7, 3) := by decide +kernel
theorem dX2_back_24 : decode cX2_back 24 = .ok (.iload_n 1, 1) := by decide +kernel
theorem dX2_back_25 : decode cX2_back 25 = .ok (.dup2, 1) := by decide +kernel
theorem dX2_back_26 : decode cX2_back 26 = .ok (.iaload, 1) := by decide +kernel
theorem dX2_back_27 : decode cX2_back 27 = .ok (.iconst 1, 1) := by decide +kernel
theorem dX2_back_28 : decode cX2_back 28 = .ok (.isub, 1) := by decide +kernel
theorem dX2_back_29 : decode cX2_back 29 = .ok (.iastore, 1) := by decide +kernel
theorem dX2_back_30 : decode cX2_back 30 = .ok (.aload_n 0, 1) := by decide +kernel
theorem dX2_back_31 : decode cX2_back 31 = .ok (.getfield 13, 3) := by decide +kernel
theorem dX2_back_34 : decode cX2_back 34 = .ok (.bipush 9, 2) := by decide +kernel
theorem dX2_back_36 : decode cX2_back 36 = .ok (.iload_n 1, 1) := by decide +kernel
theorem dX2_back_37 : decode cX2_back 37 = .ok (.imul, 1) := by decide +kernel
theorem dX2_back_38 : decode cX2_back 38 = .ok (.aload_n 0, 1) := by decide +kernel
theorem dX2_back_39 : decode cX2_back 39 = .ok (.getfield 7, 3) := by decide +kernel
theorem dX2_back_42 : decode cX2_back 42 = .ok (.iload_n 1, 1) := by decide +kernel
theorem dX2_back_43 : decode cX2_back 43 = .ok (.iaload, 1) := by decide +kernel
theorem dX2_back_44 : decode cX2_back 44 = .ok (.iadd, 1) := by decide +kernel
theorem dX2_back_45 : decode cX2_back 45 = .ok (.iaload, 1) := by decide +kernel
theorem dX2_back_46 : decode cX2_back 46 = .ok (.ireturn, 1) := by decide +kernel
theorem dX2_value_0 : decode cX2_value 0 = .ok (.aload_n 0, 1) := by decide +kernel
theorem dX2_value_1 : decode cX2_value 1 = .ok (.iload_n 1, 1) := by decide +kernel
theorem dX2_value_2 : decode cX2_value 2 = .ok (.invokevirtual 23, 3) := by decide +kernel
theorem dX2_value_5 : decode cX2_value 5 = .ok (.ifCond .eq 22, 3) := by decide +kernel
theorem dX2_value_8 : decode cX2_value 8 = .ok (.iload_n 2, 1) := by decide +kernel
theorem dX2_value_9 : decode cX2_value 9 = .ok (.ifCond .lt 18, 3) := by decide +kernel
theorem dX2_value_12 : decode cX2_value 12 = .ok (.iload_n 2, 1) := by decide +kernel
theorem dX2_value_13 : decode cX2_value 13 = .ok (.bipush 80, 2) := by decide +kernel
theorem dX2_value_15 : decode cX2_value 15 = .ok (.if_icmp .gt 12, 3) := by decide +kernel
theorem dX2_value_18 : decode cX2_value 18 = .ok (.aload_n 0, 1) := by decide +kernel
theorem dX2_value_19 : decode cX2_value 19 = .ok (.iload_n 1, 1) := by decide +kernel
theorem dX2_value_20 : decode cX2_value 20 = .ok (.iload_n 2, 1) := by decide +kernel
theorem dX2_value_21 : decode cX2_value 21 = .ok (.invokevirtual 38, 3) := by decide +kernel
theorem dX2_value_24 : decode cX2_value 24 = .ok (.goto 4, 3) := by decide +kernel
theorem dX2_value_27 : decode cX2_value 27 = .ok (.iconst (-1), 1) := by decide +kernel
theorem dX2_value_28 : decode cX2_value 28 = .ok (.ireturn, 1) := by decide +kernel
theorem dX2_eval_0 : decode cX2_eval 0 = .ok (.iconst 0, 1) := by decide +kernel
theorem dX2_eval_1 : decode cX2_eval 1 = .ok (.istore_n 3, 1) := by decide +kernel
theorem dX2_eval_2 : decode cX2_eval 2 = .ok (.aload_n 0, 1) := by decide +kernel
theorem dX2_eval_3 : decode cX2_eval 3 = .ok (.getfield 7, 3) := by decide +kernel
theorem dX2_eval_6 : decode cX2_eval 6 = .ok (.iload_n 1, 1) := by decide +kernel
theorem dX2_eval_7 : decode cX2_eval 7 = .ok (.iaload, 1) := by decide +kernel
theorem dX2_eval_8 : decode cX2_eval 8 = .ok (.iconst 1, 1) := by decide +kernel
theorem dX2_eval_9 : decode cX2_eval 9 = .ok (.isub, 1) := by decide +kernel
theorem dX2_eval_10 : decode cX2_eval 10 = .ok (.istore 4, 2) := by decide +kernel
theorem dX2_eval_12 : decode cX2_eval 12 = .ok (.iload 4, 2) := by decide +kernel
theorem dX2_eval_14 : decode cX2_eval 14 = .ok (.ifCond .lt 173, 3) := by decide +kernel
theorem dX2_eval_17 : decode cX2_eval 17 = .ok (.aload_n 0, 1) := by decide +kernel
theorem dX2_eval_18 : decode cX2_eval 18 = .ok (.getfield 13, 3) := by decide +kernel
theorem dX2_eval_21 : decode cX2_eval 21 = .ok (.bipush 9, 2) := by decide +kernel
theorem dX2_eval_23 : decode cX2_eval 23 = .ok (.iload_n 1, 1) := by decide +kernel
theorem dX2_eval_24 : decode cX2_eval 24 = .ok (.imul, 1) := by decide +kernel
theorem dX2_eval_25 : decode cX2_eval 25 = .ok (.iload 4, 2) := by decide +kernel
theorem dX2_eval_27 : decode cX2_eval 27 = .ok (.iadd, 1) := by decide +kernel
theorem dX2_eval_28 : decode cX2_eval 28 = .ok (.iaload, 1) := by decide +kernel
theorem dX2_eval_29 : decode cX2_eval 29 = .ok (.istore 5, 2) := by decide +kernel
theorem dX2_eval_31 : decode cX2_eval 31 = .ok (.iload 5, 2) := by decide +kernel
theorem dX2_eval_33 : decode cX2_eval 33 = .ok (.iconst 4, 1) := by decide +kernel
theorem dX2_eval_34 : decode cX2_eval 34 = .ok (.if_icmp .lt 24, 3) := by decide +kernel
theorem dX2_eval_37 : decode cX2_eval 37 = .ok (.aload_n 0, 1) := by decide +kernel
theorem dX2_eval_38 : decode cX2_eval 38 = .ok (.getfield 16, 3) := by decide +kernel
theorem dX2_eval_41 : decode cX2_eval 41 = .ok (.iload_n 3, 1) := by decide +kernel
theorem dX2_eval_42 : decode cX2_eval 42 = .ok (.aload_n 0, 1) := by decide +kernel
theorem dX2_eval_43 : decode cX2_eval 43 = .ok (.iload 5, 2) := by decide +kernel
theorem dX2_eval_45 : decode cX2_eval 45 = .ok (.iconst 4, 1) := by decide +kernel
theorem dX2_eval_46 : decode cX2_eval 46 = .ok (.isub, 1) := by decide +kernel
theorem dX2_eval_47 : decode cX2_eval 47 = .ok (.iload_n 2, 1) := by decide +kernel
theorem dX2_eval_48 : decode cX2_eval 48 = .ok (.invokevirtual 27, 3) := by decide +kernel
theorem dX2_eval_51 : decode cX2_eval 51 = .ok (.iastore, 1) := by decide +kernel
theorem dX2_eval_52 : decode cX2_eval 52 = .ok (.iinc 3 1, 3) := by decide +kernel
theorem dX2_eval_55 : decode cX2_eval 55 = .ok (.goto 126, 3) := by decide +kernel
theorem dX2_eval_58 : decode cX2_eval 58 = .ok (.iload 5, 2) := by decide +kernel
theorem dX2_eval_60 : decode cX2_eval 60 = .ok (.ifCond .ne 31, 3) := by decide +kernel
theorem dX2_eval_63 : decode cX2_eval 63 = .ok (.iload_n 3, 1) := by decide +kernel
theorem dX2_eval_64 : decode cX2_eval 64 = .ok (.iconst 1, 1) := by decide +kernel
theorem dX2_eval_65 : decode cX2_eval 65 = .ok (.if_icmp .lt 26, 3) := by decide +kernel
theorem dX2_eval_68 : decode cX2_eval 68 = .ok (.aload_n 0, 1) := by decide +kernel
theorem dX2_eval_69 : decode cX2_eval 69 = .ok (.getfield 16, 3) := by decide +kernel
theorem dX2_eval_72 : decode cX2_eval 72 = .ok (.iload_n 3, 1) := by decide +kernel
theorem dX2_eval_73 : decode cX2_eval 73 = .ok (.iconst 1, 1) := by decide +kernel
theorem dX2_eval_74 : decode cX2_eval 74 = .ok (.isub, 1) := by decide +kernel
theorem dX2_eval_75 : decode cX2_eval 75 = .ok (.aload_n 0, 1) := by decide +kernel
theorem dX2_eval_76 : decode cX2_eval 76 = .ok (.aload_n 0, 1) := by decide +kernel
theorem dX2_eval_77 : decode cX2_eval 77 = .ok (.getfield 16, 3) := by decide +kernel
theorem dX2_eval_80 : decode cX2_eval 80 = .ok (.iload_n 3, 1) := by decide +kernel
theorem dX2_eval_81 : decode cX2_eval 81 = .ok (.iconst 1, 1) := by decide +kernel
theorem dX2_eval_82 : decode cX2_eval 82 = .ok (.isub, 1) := by decide +kernel
theorem dX2_eval_83 : decode cX2_eval 83 = .ok (.iaload, 1) := by decide +kernel
theorem dX2_eval_84 : decode cX2_eval 84 = .ok (.invokevirtual 31, 3) := by decide +kernel
theorem dX2_eval_87 : decode cX2_eval 87 = .ok (.iastore, 1) := by decide +kernel
theorem dX2_eval_88 : decode cX2_eval 88 = .ok (.goto 93, 3) := by decide +kernel
theorem dX2_eval_91 : decode cX2_eval 91 = .ok (.iload_n 3, 1) := by decide +kernel
theorem dX2_eval_92 : decode cX2_eval 92 = .ok (.iconst 2, 1) := by decide +kernel
theorem dX2_eval_93 : decode cX2_eval 93 = .ok (.if_icmp .lt 88, 3) := by decide +kernel
theorem dX2_eval_96 : decode cX2_eval 96 = .ok (.aload_n 0, 1) := by decide +kernel
theorem dX2_eval_97 : decode cX2_eval 97 = .ok (.getfield 16, 3) := by decide +kernel
theorem dX2_eval_100 : decode cX2_eval 100 = .ok (.iload_n 3, 1) := by decide +kernel
theorem dX2_eval_101 : decode cX2_eval 101 = .ok (.iconst 1, 1) := by decide +kernel
theorem dX2_eval_102 : decode cX2_eval 102 = .ok (.isub, 1) := by decide +kernel
theorem dX2_eval_103 : decode cX2_eval 103 = .ok (.iaload, 1) := by decide +kernel
theorem dX2_eval_104 : decode cX2_eval 104 = .ok (.istore 6, 2) := by decide +kernel
theorem dX2_eval_106 : decode cX2_eval 106 = .ok (.aload_n 0, 1) := by decide +kernel
theorem dX2_eval_107 : decode cX2_eval 107 = .ok (.getfield 16, 3) := by decide +kernel
theorem dX2_eval_110 : decode cX2_eval 110 = .ok (.iload_n 3, 1) := by decide +kernel
theorem dX2_eval_111 : decode cX2_eval 111 = .ok (.iconst 2, 1) := by decide +kernel
theorem dX2_eval_112 : decode cX2_eval 112 = .ok (.isub, 1) := by decide +kernel
theorem dX2_eval_113 : decode cX2_eval 113 = .ok (.iaload, 1) := by decide +kernel
theorem dX2_eval_114 : decode cX2_eval 114 = .ok (.istore 7, 2) := by decide +kernel
theorem dX2_eval_116 : decode cX2_eval 116 = .ok (.iinc 3 (-1), 3) := by decide +kernel
theorem dX2_eval_119 : decode cX2_eval 119 = .ok (.aload_n 0, 1) := by decide +kernel
theorem dX2_eval_120 : decode cX2_eval 120 = .ok (.getfield 16, 3) := by decide +kernel
theorem dX2_eval_123 : decode cX2_eval 123 = .ok (.iload_n 3, 1) := by decide +kernel
theorem dX2_eval_124 : decode cX2_eval 124 = .ok (.iconst 1, 1) := by decide +kernel
theorem dX2_eval_125 : decode cX2_eval 125 = .ok (.isub, 1) := by decide +kernel
theorem dX2_eval_126 : decode cX2_eval 126 = .ok (.iload 5, 2) := by decide +kernel
theorem dX2_eval_128 : decode cX2_eval 128 = .ok (.iconst 1, 1) := by decide +kernel
theorem dX2_eval_129 : decode cX2_eval 129 = .ok (.if_icmp .ne 20, 3) := by decide +kernel
theorem dX2_eval_132 : decode cX2_eval 132 = .ok (.iload 6, 2) := by decide +kernel
theorem dX2_eval_134 : decode cX2_eval 134 = .ok (.iload 7, 2) := by decide +kernel
theorem dX2_eval_136 : decode cX2_eval 136 = .ok (.if_icmp .ge 8, 3) := by decide +kernel
theorem dX2_eval_139 : decode cX2_eval 139 = .ok (.iload 6, 2) := by decide +kernel
theorem dX2_eval_141 : decode cX2_eval 141 = .ok (.goto 39, 3) := by decide +kernel
theorem dX2_eval_144 : decode cX2_eval 144 = .ok (.iload 7, 2) := by decide +kernel
theorem dX2_eval_146 : decode cX2_eval 146 = .ok (.goto 34, 3) := by decide +kernel
theorem dX2_eval_149 : decode cX2_eval 149 = .ok (.iload 5, 2) := by decide +kernel
theorem dX2_eval_151 : decode cX2_eval 151 = .ok (.iconst 2, 1) := by decide +kernel
theorem dX2_eval_152 : decode cX2_eval 152 = .ok (.if_icmp .ne 20, 3) := by decide +kernel
theorem dX2_eval_155 : decode cX2_eval 155 = .ok (.iload 6, 2) := by decide +kernel
theorem dX2_eval_157 : decode cX2_eval 157 = .ok (.iload 7, 2) := by decide +kernel
theorem dX2_eval_159 : decode cX2_eval 159 = .ok (.if_icmp .le 8, 3) := by decide +kernel
theorem dX2_eval_162 : decode cX2_eval 162 = .ok (.iload 6, 2) := by decide +kernel
theorem dX2_eval_164 : decode cX2_eval 164 = .ok (.goto 16, 3) := by decide +kernel
theorem dX2_eval_167 : decode cX2_eval 167 = .ok (.iload 7, 2) := by decide +kernel
theorem dX2_eval_169 : decode cX2_eval 169 = .ok (.goto 11, 3) := by decide +kernel
theorem dX2_eval_172 : decode cX2_eval 172 = .ok (.aload_n 0, 1) := by decide +kernel
theorem dX2_eval_173 : decode cX2_eval 173 = .ok (.iload 6, 2) := by decide +kernel
theorem dX2_eval_175 : decode cX2_eval 175 = .ok (.iload 7, 2) := by decide +kernel
theorem dX2_eval_177 : decode cX2_eval 177 = .ok (.invokevirtual 35, 3) := by decide +kernel
theorem dX2_eval_180 : decode cX2_eval 180 = .ok (.iastore, 1) := by decide +kernel
theorem dX2_eval_181 : decode cX2_eval 181 = .ok (.iinc 4 (-1), 3) := by decide +kernel
theorem dX2_eval_184 : decode cX2_eval 184 = .ok (.goto (-172), 3) := by decide +kernel
theorem dX2_eval_187 : decode cX2_eval 187 = .ok (.aload_n 0, 1) := by decide +kernel
theorem dX2_eval_188 : decode cX2_eval 188 = .ok (.getfield 16, 3) := by decide +kernel
theorem dX2_eval_191 : decode cX2_eval 191 = .ok (.iconst 0, 1) := by decide +kernel
theorem dX2_eval_192 : decode cX2_eval 192 = .ok (.iaload, 1) := by decide +kernel
theorem dX2_eval_193 : decode cX2_eval 193 = .ok (.ireturn, 1) := by decide +kernel
theorem dX2_letter_0 : decode cX2_letter 0 = .ok (.iload_n 1, 1) := by decide +kernel
theorem dX2_letter_1 : decode cX2_letter 1 = .ok (.ifCond .ne 9, 3) := by decide +kernel
theorem dX2_letter_4 : decode cX2_letter 4 = .ok (.iload_n 2, 1) := by decide +kernel
theorem dX2_letter_5 : decode cX2_letter 5 = .ok (.iconst 3, 1) := by decide +kernel
theorem dX2_letter_6 : decode cX2_letter 6 = .ok (.irem, 1) := by decide +kernel
theorem dX2_letter_7 : decode cX2_letter 7 = .ok (.goto 34, 3) := by decide +kernel
theorem dX2_letter_10 : decode cX2_letter 10 = .ok (.iload_n 1, 1) := by decide +kernel
theorem dX2_letter_11 : decode cX2_letter 11 = .ok (.iconst 1, 1) := by decide +kernel
theorem dX2_letter_12 : decode cX2_letter 12 = .ok (.if_icmp .ne 11, 3) := by decide +kernel
theorem dX2_letter_15 : decode cX2_letter 15 = .ok (.iload_n 2, 1) := by decide +kernel
theorem dX2_letter_16 : decode cX2_letter 16 = .ok (.iconst 3, 1) := by decide +kernel
theorem dX2_letter_17 : decode cX2_letter 17 = .ok (.idiv, 1) := by decide +kernel
theorem dX2_letter_18 : decode cX2_letter 18 = .ok (.iconst 3, 1) := by decide +kernel
theorem dX2_letter_19 : decode cX2_letter 19 = .ok (.irem, 1) := by decide +kernel
theorem dX2_letter_20 : decode cX2_letter 20 = .ok (.goto 21, 3) := by decide +kernel
theorem dX2_letter_23 : decode cX2_letter 23 = .ok (.iload_n 1, 1) := by decide +kernel
theorem dX2_letter_24 : decode cX2_letter 24 = .ok (.iconst 2, 1) := by decide +kernel
theorem dX2_letter_25 : decode cX2_letter 25 = .ok (.if_icmp .ne 12, 3) := by decide +kernel
theorem dX2_letter_28 : decode cX2_letter 28 = .ok (.iload_n 2, 1) := by decide +kernel
theorem dX2_letter_29 : decode cX2_letter 29 = .ok (.bipush 9, 2) := by decide +kernel
theorem dX2_letter_31 : decode cX2_letter 31 = .ok (.idiv, 1) := by decide +kernel
theorem dX2_letter_32 : decode cX2_letter 32 = .ok (.iconst 3, 1) := by decide +kernel
theorem dX2_letter_33 : decode cX2_letter 33 = .ok (.irem, 1) := by decide +kernel
theorem dX2_letter_34 : decode cX2_letter 34 = .ok (.goto 7, 3) := by decide +kernel
theorem dX2_letter_37 : decode cX2_letter 37 = .ok (.iload_n 2, 1) := by decide +kernel
theorem dX2_letter_38 : decode cX2_letter 38 = .ok (.bipush 27, 2) := by decide +kernel
theorem dX2_letter_40 : decode cX2_letter 40 = .ok (.idiv, 1) := by decide +kernel
theorem dX2_letter_41 : decode cX2_letter 41 = .ok (.ireturn, 1) := by decide +kernel
theorem dX2_not_0 : decode cX2_not 0 = .ok (.aload_n 0, 1) := by decide +kernel
theorem dX2_not_1 : decode cX2_not 1 = .ok (.getfield 19, 3) := by decide +kernel
theorem dX2_not_4 : decode cX2_not 4 = .ok (.iconst 2, 1) := by decide +kernel
theorem dX2_not_5 : decode cX2_not 5 = .ok (.if_icmp .ge 9, 3) := by decide +kernel
theorem dX2_not_8 : decode cX2_not 8 = .ok (.iconst 2, 1) := by decide +kernel
theorem dX2_not_9 : decode cX2_not 9 = .ok (.iload_n 1, 1) := by decide +kernel
theorem dX2_not_10 : decode cX2_not 10 = .ok (.isub, 1) := by decide +kernel
theorem dX2_not_11 : decode cX2_not 11 = .ok (.goto 12, 3) := by decide +kernel
theorem dX2_not_14 : decode cX2_not 14 = .ok (.iload_n 1, 1) := by decide +kernel
theorem dX2_not_15 : decode cX2_not 15 = .ok (.ifCond .ne 7, 3) := by decide +kernel
theorem dX2_not_18 : decode cX2_not 18 = .ok (.iconst 2, 1) := by decide +kernel
theorem dX2_not_19 : decode cX2_not 19 = .ok (.goto 4, 3) := by decide +kernel
theorem dX2_not_22 : decode cX2_not 22 = .ok (.iconst 0, 1) := by decide +kernel
theorem dX2_not_23 : decode cX2_not 23 = .ok (.ireturn, 1) := by decide +kernel
theorem dX2_implies_0 : decode cX2_implies 0 = .ok (.aload_n 0, 1) := by decide +kernel
theorem dX2_implies_1 : decode cX2_implies 1 = .ok (.getfield 19, 3) := by decide +kernel
theorem dX2_implies_4 : decode cX2_implies 4 = .ok (.ifCond .ne 22, 3) := by decide +kernel
theorem dX2_implies_7 : decode cX2_implies 7 = .ok (.iconst 2, 1) := by decide +kernel
theorem dX2_implies_8 : decode cX2_implies 8 = .ok (.iload_n 1, 1) := by decide +kernel
theorem dX2_implies_9 : decode cX2_implies 9 = .ok (.isub, 1) := by decide +kernel
theorem dX2_implies_10 : decode cX2_implies 10 = .ok (.iload_n 2, 1) := by decide +kernel
theorem dX2_implies_11 : decode cX2_implies 11 = .ok (.iadd, 1) := by decide +kernel
theorem dX2_implies_12 : decode cX2_implies 12 = .ok (.iconst 2, 1) := by decide +kernel
theorem dX2_implies_13 : decode cX2_implies 13 = .ok (.if_icmp .ge 11, 3) := by decide +kernel
theorem dX2_implies_16 : decode cX2_implies 16 = .ok (.iconst 2, 1) := by decide +kernel
theorem dX2_implies_17 : decode cX2_implies 17 = .ok (.iload_n 1, 1) := by decide +kernel
theorem dX2_implies_18 : decode cX2_implies 18 = .ok (.isub, 1) := by decide +kernel
theorem dX2_implies_19 : decode cX2_implies 19 = .ok (.iload_n 2, 1) := by decide +kernel
theorem dX2_implies_20 : decode cX2_implies 20 = .ok (.iadd, 1) := by decide +kernel
theorem dX2_implies_21 : decode cX2_implies 21 = .ok (.goto 4, 3) := by decide +kernel
theorem dX2_implies_24 : decode cX2_implies 24 = .ok (.iconst 2, 1) := by decide +kernel
theorem dX2_implies_25 : decode cX2_implies 25 = .ok (.ireturn, 1) := by decide +kernel
theorem dX2_implies_26 : decode cX2_implies 26 = .ok (.aload_n 0, 1) := by decide +kernel
theorem dX2_implies_27 : decode cX2_implies 27 = .ok (.getfield 19, 3) := by decide +kernel
theorem dX2_implies_30 : decode cX2_implies 30 = .ok (.iconst 1, 1) := by decide +kernel
theorem dX2_implies_31 : decode cX2_implies 31 = .ok (.if_icmp .ne 18, 3) := by decide +kernel
theorem dX2_implies_34 : decode cX2_implies 34 = .ok (.iconst 2, 1) := by decide +kernel
theorem dX2_implies_35 : decode cX2_implies 35 = .ok (.iload_n 1, 1) := by decide +kernel
theorem dX2_implies_36 : decode cX2_implies 36 = .ok (.isub, 1) := by decide +kernel
theorem dX2_implies_37 : decode cX2_implies 37 = .ok (.iload_n 2, 1) := by decide +kernel
theorem dX2_implies_38 : decode cX2_implies 38 = .ok (.if_icmp .le 9, 3) := by decide +kernel
theorem dX2_implies_41 : decode cX2_implies 41 = .ok (.iconst 2, 1) := by decide +kernel
theorem dX2_implies_42 : decode cX2_implies 42 = .ok (.iload_n 1, 1) := by decide +kernel
theorem dX2_implies_43 : decode cX2_implies 43 = .ok (.isub, 1) := by decide +kernel
theorem dX2_implies_44 : decode cX2_implies 44 = .ok (.goto 4, 3) := by decide +kernel
theorem dX2_implies_47 : decode cX2_implies 47 = .ok (.iload_n 2, 1) := by decide +kernel
theorem dX2_implies_48 : decode cX2_implies 48 = .ok (.ireturn, 1) := by decide +kernel
theorem dX2_implies_49 : decode cX2_implies 49 = .ok (.iload_n 1, 1) := by decide +kernel
theorem dX2_implies_50 : decode cX2_implies 50 = .ok (.iload_n 2, 1) := by decide +kernel
theorem dX2_implies_51 : decode cX2_implies 51 = .ok (.if_icmp .gt 7, 3) := by decide +kernel
theorem dX2_implies_54 : decode cX2_implies 54 = .ok (.iconst 2, 1) := by decide +kernel
theorem dX2_implies_55 : decode cX2_implies 55 = .ok (.goto 4, 3) := by decide +kernel
theorem dX2_implies_58 : decode cX2_implies 58 = .ok (.iload_n 2, 1) := by decide +kernel
theorem dX2_implies_59 : decode cX2_implies 59 = .ok (.ireturn, 1) := by decide +kernel
theorem dX2_find_0 : decode cX2_find 0 = .ok (.iconst 0, 1) := by decide +kernel
theorem dX2_find_1 : decode cX2_find 1 = .ok (.istore_n 3, 1) := by decide +kernel
theorem dX2_find_2 : decode cX2_find 2 = .ok (.iload_n 3, 1) := by decide +kernel
theorem dX2_find_3 : decode cX2_find 3 = .ok (.bipush 80, 2) := by decide +kernel
theorem dX2_find_5 : decode cX2_find 5 = .ok (.if_icmp .gt 29, 3) := by decide +kernel
theorem dX2_find_8 : decode cX2_find 8 = .ok (.aload_n 0, 1) := by decide +kernel
theorem dX2_find_9 : decode cX2_find 9 = .ok (.iload_n 1, 1) := by decide +kernel
theorem dX2_find_10 : decode cX2_find 10 = .ok (.invokevirtual 23, 3) := by decide +kernel
theorem dX2_find_13 : decode cX2_find 13 = .ok (.ifCond .eq 21, 3) := by decide +kernel
theorem dX2_find_16 : decode cX2_find 16 = .ok (.aload_n 0, 1) := by decide +kernel
theorem dX2_find_17 : decode cX2_find 17 = .ok (.iload_n 1, 1) := by decide +kernel
theorem dX2_find_18 : decode cX2_find 18 = .ok (.iload_n 3, 1) := by decide +kernel
theorem dX2_find_19 : decode cX2_find 19 = .ok (.invokevirtual 38, 3) := by decide +kernel
theorem dX2_find_22 : decode cX2_find 22 = .ok (.iload_n 2, 1) := by decide +kernel
theorem dX2_find_23 : decode cX2_find 23 = .ok (.if_icmp .ne 5, 3) := by decide +kernel
theorem dX2_find_26 : decode cX2_find 26 = .ok (.iload_n 3, 1) := by decide +kernel
theorem dX2_find_27 : decode cX2_find 27 = .ok (.ireturn, 1) := by decide +kernel
theorem dX2_find_28 : decode cX2_find 28 = .ok (.iinc 3 1, 3) := by decide +kernel
theorem dX2_find_31 : decode cX2_find 31 = .ok (.goto (-29), 3) := by decide +kernel
theorem dX2_find_34 : decode cX2_find 34 = .ok (.iconst (-1), 1) := by decide +kernel
theorem dX2_find_35 : decode cX2_find 35 = .ok (.ireturn, 1) := by decide +kernel
theorem dX2_values_0 : decode cX2_values 0 = .ok (.iconst 0, 1) := by decide +kernel
theorem dX2_values_1 : decode cX2_values 1 = .ok (.istore_n 2, 1) := by decide +kernel
theorem dX2_values_2 : decode cX2_values 2 = .ok (.iconst 0, 1) := by decide +kernel
theorem dX2_values_3 : decode cX2_values 3 = .ok (.istore_n 3, 1) := by decide +kernel
theorem dX2_values_4 : decode cX2_values 4 = .ok (.iload_n 3, 1) := by decide +kernel
theorem dX2_values_5 : decode cX2_values 5 = .ok (.bipush 80, 2) := by decide +kernel
theorem dX2_values_7 : decode cX2_values 7 = .ok (.if_icmp .gt 28, 3) := by decide +kernel
theorem dX2_values_10 : decode cX2_values 10 = .ok (.aload_n 0, 1) := by decide +kernel
theorem dX2_values_11 : decode cX2_values 11 = .ok (.iload_n 1, 1) := by decide +kernel
theorem dX2_values_12 : decode cX2_values 12 = .ok (.invokevirtual 23, 3) := by decide +kernel
theorem dX2_values_15 : decode cX2_values 15 = .ok (.ifCond .eq 20, 3) := by decide +kernel
theorem dX2_values_18 : decode cX2_values 18 = .ok (.iload_n 2, 1) := by decide +kernel
theorem dX2_values_19 : decode cX2_values 19 = .ok (.iconst 1, 1) := by decide +kernel
theorem dX2_values_20 : decode cX2_values 20 = .ok (.aload_n 0, 1) := by decide +kernel
theorem dX2_values_21 : decode cX2_values 21 = .ok (.iload_n 1, 1) := by decide +kernel
theorem dX2_values_22 : decode cX2_values 22 = .ok (.iload_n 3, 1) := by decide +kernel
theorem dX2_values_23 : decode cX2_values 23 = .ok (.invokevirtual 38, 3) := by decide +kernel
theorem dX2_values_26 : decode cX2_values 26 = .ok (.ishl, 1) := by decide +kernel
theorem dX2_values_27 : decode cX2_values 27 = .ok (.ior, 1) := by decide +kernel
theorem dX2_values_28 : decode cX2_values 28 = .ok (.istore_n 2, 1) := by decide +kernel
theorem dX2_values_29 : decode cX2_values 29 = .ok (.iinc 3 1, 3) := by decide +kernel
theorem dX2_values_32 : decode cX2_values 32 = .ok (.goto (-28), 3) := by decide +kernel
theorem dX2_values_35 : decode cX2_values 35 = .ok (.iload_n 2, 1) := by decide +kernel
theorem dX2_values_36 : decode cX2_values 36 = .ok (.ireturn, 1) := by decide +kernel
theorem dX2_valid_0 : decode cX2_valid 0 = .ok (.aload_n 0, 1) := by decide +kernel
theorem dX2_valid_1 : decode cX2_valid 1 = .ok (.iload_n 1, 1) := by decide +kernel
theorem dX2_valid_2 : decode cX2_valid 2 = .ok (.invokevirtual 41, 3) := by decide +kernel
theorem dX2_valid_5 : decode cX2_valid 5 = .ok (.iconst 4, 1) := by decide +kernel
theorem dX2_valid_6 : decode cX2_valid 6 = .ok (.if_icmp .ne 7, 3) := by decide +kernel
theorem dX2_valid_9 : decode cX2_valid 9 = .ok (.iconst 1, 1) := by decide +kernel
theorem dX2_valid_10 : decode cX2_valid 10 = .ok (.goto 4, 3) := by decide +kernel
theorem dX2_valid_13 : decode cX2_valid 13 = .ok (.iconst 0, 1) := by decide +kernel
theorem dX2_valid_14 : decode cX2_valid 14 = .ok (.ireturn, 1) := by decide +kernel
theorem dX2_findBoth_0 : decode cX2_findBoth 0 = .ok (.iconst 0, 1) := by decide +kernel
theorem dX2_findBoth_1 : decode cX2_findBoth 1 = .ok (.istore_n 3, 1) := by decide +kernel
theorem dX2_findBoth_2 : decode cX2_findBoth 2 = .ok (.iload_n 3, 1) := by decide +kernel
theorem dX2_findBoth_3 : decode cX2_findBoth 3 = .ok (.bipush 80, 2) := by decide +kernel
theorem dX2_findBoth_5 : decode cX2_findBoth 5 = .ok (.if_icmp .gt 47, 3) := by decide +kernel
theorem dX2_findBoth_8 : decode cX2_findBoth 8 = .ok (.aload_n 0, 1) := by decide +kernel
theorem dX2_findBoth_9 : decode cX2_findBoth 9 = .ok (.iconst 0, 1) := by decide +kernel
theorem dX2_findBoth_10 : decode cX2_findBoth 10 = .ok (.invokevirtual 23, 3) := by decide +kernel
theorem dX2_findBoth_13 : decode cX2_findBoth 13 = .ok (.ifCond .eq 39, 3) := by decide +kernel
theorem dX2_findBoth_16 : decode cX2_findBoth 16 = .ok (.aload_n 0, 1) := by decide +kernel
theorem dX2_findBoth_17 : decode cX2_findBoth 17 = .ok (.iconst 1, 1) := by decide +kernel
theorem dX2_findBoth_18 : decode cX2_findBoth 18 = .ok (.invokevirtual 23, 3) := by decide +kernel
theorem dX2_findBoth_21 : decode cX2_findBoth 21 = .ok (.ifCond .eq 31, 3) := by decide +kernel
theorem dX2_findBoth_24 : decode cX2_findBoth 24 = .ok (.aload_n 0, 1) := by decide +kernel
theorem dX2_findBoth_25 : decode cX2_findBoth 25 = .ok (.iconst 0, 1) := by decide +kernel
theorem dX2_findBoth_26 : decode cX2_findBoth 26 = .ok (.iload_n 3, 1) := by decide +kernel
theorem dX2_findBoth_27 : decode cX2_findBoth 27 = .ok (.invokevirtual 38, 3) := by decide +kernel
theorem dX2_findBoth_30 : decode cX2_findBoth 30 = .ok (.iload_n 1, 1) := by decide +kernel
theorem dX2_findBoth_31 : decode cX2_findBoth 31 = .ok (.if_icmp .ne 15, 3) := by decide +kernel
theorem dX2_findBoth_34 : decode cX2_findBoth 34 = .ok (.aload_n 0, 1) := by decide +kernel
theorem dX2_findBoth_35 : decode cX2_findBoth 35 = .ok (.iconst 1, 1) := by decide +kernel
theorem dX2_findBoth_36 : decode cX2_findBoth 36 = .ok (.iload_n 3, 1) := by decide +kernel
theorem dX2_findBoth_37 : decode cX2_findBoth 37 = .ok (.invokevirtual 38, 3) := by decide +kernel
theorem dX2_findBoth_40 : decode cX2_findBoth 40 = .ok (.iload_n 2, 1) := by decide +kernel
theorem dX2_findBoth_41 : decode cX2_findBoth 41 = .ok (.if_icmp .ne 5, 3) := by decide +kernel
theorem dX2_findBoth_44 : decode cX2_findBoth 44 = .ok (.iload_n 3, 1) := by decide +kernel
theorem dX2_findBoth_45 : decode cX2_findBoth 45 = .ok (.ireturn, 1) := by decide +kernel
theorem dX2_findBoth_46 : decode cX2_findBoth 46 = .ok (.iinc 3 1, 3) := by decide +kernel
theorem dX2_findBoth_49 : decode cX2_findBoth 49 = .ok (.goto (-47), 3) := by decide +kernel
theorem dX2_findBoth_52 : decode cX2_findBoth 52 = .ok (.iconst (-1), 1) := by decide +kernel
theorem dX2_findBoth_53 : decode cX2_findBoth 53 = .ok (.ireturn, 1) := by decide +kernel
theorem dX2_entails_0 : decode cX2_entails 0 = .ok (.aload_n 0, 1) := by decide +kernel
theorem dX2_entails_1 : decode cX2_entails 1 = .ok (.iconst 0, 1) := by decide +kernel
theorem dX2_entails_2 : decode cX2_entails 2 = .ok (.invokevirtual 23, 3) := by decide +kernel
theorem dX2_entails_5 : decode cX2_entails 5 = .ok (.ifCond .eq 15, 3) := by decide +kernel
theorem dX2_entails_8 : decode cX2_entails 8 = .ok (.aload_n 0, 1) := by decide +kernel
theorem dX2_entails_9 : decode cX2_entails 9 = .ok (.iconst 1, 1) := by decide +kernel
theorem dX2_entails_10 : decode cX2_entails 10 = .ok (.invokevirtual 23, 3) := by decide +kernel
theorem dX2_entails_13 : decode cX2_entails 13 = .ok (.ifCond .eq 7, 3) := by decide +kernel
theorem dX2_entails_16 : decode cX2_entails 16 = .ok (.iconst 1, 1) := by decide +kernel
theorem dX2_entails_17 : decode cX2_entails 17 = .ok (.goto 4, 3) := by decide +kernel
theorem dX2_entails_20 : decode cX2_entails 20 = .ok (.iconst 0, 1) := by decide +kernel
theorem dX2_entails_21 : decode cX2_entails 21 = .ok (.istore_n 1, 1) := by decide +kernel
theorem dX2_entails_22 : decode cX2_entails 22 = .ok (.iconst 0, 1) := by decide +kernel
theorem dX2_entails_23 : decode cX2_entails 23 = .ok (.istore_n 2, 1) := by decide +kernel
theorem dX2_entails_24 : decode cX2_entails 24 = .ok (.iload_n 2, 1) := by decide +kernel
theorem dX2_entails_25 : decode cX2_entails 25 = .ok (.bipush 80, 2) := by decide +kernel
theorem dX2_entails_27 : decode cX2_entails 27 = .ok (.if_icmp .gt 39, 3) := by decide +kernel
theorem dX2_entails_30 : decode cX2_entails 30 = .ok (.iload_n 1, 1) := by decide +kernel
theorem dX2_entails_31 : decode cX2_entails 31 = .ok (.ifCond .eq 35, 3) := by decide +kernel
theorem dX2_entails_34 : decode cX2_entails 34 = .ok (.aload_n 0, 1) := by decide +kernel
theorem dX2_entails_35 : decode cX2_entails 35 = .ok (.iconst 0, 1) := by decide +kernel
theorem dX2_entails_36 : decode cX2_entails 36 = .ok (.iload_n 2, 1) := by decide +kernel
theorem dX2_entails_37 : decode cX2_entails 37 = .ok (.invokevirtual 38, 3) := by decide +kernel
theorem dX2_entails_40 : decode cX2_entails 40 = .ok (.iconst 2, 1) := by decide +kernel
theorem dX2_entails_41 : decode cX2_entails 41 = .ok (.if_icmp .ne 13, 3) := by decide +kernel
theorem dX2_entails_44 : decode cX2_entails 44 = .ok (.aload_n 0, 1) := by decide +kernel
theorem dX2_entails_45 : decode cX2_entails 45 = .ok (.iconst 1, 1) := by decide +kernel
theorem dX2_entails_46 : decode cX2_entails 46 = .ok (.iload_n 2, 1) := by decide +kernel
theorem dX2_entails_47 : decode cX2_entails 47 = .ok (.invokevirtual 38, 3) := by decide +kernel
theorem dX2_entails_50 : decode cX2_entails 50 = .ok (.iconst 2, 1) := by decide +kernel
theorem dX2_entails_51 : decode cX2_entails 51 = .ok (.if_icmp .ne 7, 3) := by decide +kernel
theorem dX2_entails_54 : decode cX2_entails 54 = .ok (.iconst 1, 1) := by decide +kernel
theorem dX2_entails_55 : decode cX2_entails 55 = .ok (.goto 4, 3) := by decide +kernel
theorem dX2_entails_58 : decode cX2_entails 58 = .ok (.iconst 0, 1) := by decide +kernel
theorem dX2_entails_59 : decode cX2_entails 59 = .ok (.istore_n 1, 1) := by decide +kernel
theorem dX2_entails_60 : decode cX2_entails 60 = .ok (.iinc 2 1, 3) := by decide +kernel
theorem dX2_entails_63 : decode cX2_entails 63 = .ok (.goto (-39), 3) := by decide +kernel
theorem dX2_entails_66 : decode cX2_entails 66 = .ok (.iload_n 1, 1) := by decide +kernel
theorem dX2_entails_67 : decode cX2_entails 67 = .ok (.ireturn, 1) := by decide +kernel
theorem dX2_below_0 : decode cX2_below 0 = .ok (.aload_n 0, 1) := by decide +kernel
theorem dX2_below_1 : decode cX2_below 1 = .ok (.iconst 0, 1) := by decide +kernel
theorem dX2_below_2 : decode cX2_below 2 = .ok (.invokevirtual 23, 3) := by decide +kernel
theorem dX2_below_5 : decode cX2_below 5 = .ok (.ifCond .eq 15, 3) := by decide +kernel
theorem dX2_below_8 : decode cX2_below 8 = .ok (.aload_n 0, 1) := by decide +kernel
theorem dX2_below_9 : decode cX2_below 9 = .ok (.iconst 1, 1) := by decide +kernel
theorem dX2_below_10 : decode cX2_below 10 = .ok (.invokevirtual 23, 3) := by decide +kernel
theorem dX2_below_13 : decode cX2_below 13 = .ok (.ifCond .eq 7, 3) := by decide +kernel
theorem dX2_below_16 : decode cX2_below 16 = .ok (.iconst 1, 1) := by decide +kernel
theorem dX2_below_17 : decode cX2_below 17 = .ok (.goto 4, 3) := by decide +kernel
theorem dX2_below_20 : decode cX2_below 20 = .ok (.iconst 0, 1) := by decide +kernel
theorem dX2_below_21 : decode cX2_below 21 = .ok (.istore_n 1, 1) := by decide +kernel
theorem dX2_below_22 : decode cX2_below 22 = .ok (.iconst 0, 1) := by decide +kernel
theorem dX2_below_23 : decode cX2_below 23 = .ok (.istore_n 2, 1) := by decide +kernel
theorem dX2_below_24 : decode cX2_below 24 = .ok (.iload_n 2, 1) := by decide +kernel
theorem dX2_below_25 : decode cX2_below 25 = .ok (.bipush 80, 2) := by decide +kernel
theorem dX2_below_27 : decode cX2_below 27 = .ok (.if_icmp .gt 34, 3) := by decide +kernel
theorem dX2_below_30 : decode cX2_below 30 = .ok (.iload_n 1, 1) := by decide +kernel
theorem dX2_below_31 : decode cX2_below 31 = .ok (.ifCond .eq 30, 3) := by decide +kernel
theorem dX2_below_34 : decode cX2_below 34 = .ok (.aload_n 0, 1) := by decide +kernel
theorem dX2_below_35 : decode cX2_below 35 = .ok (.iconst 0, 1) := by decide +kernel
theorem dX2_below_36 : decode cX2_below 36 = .ok (.iload_n 2, 1) := by decide +kernel
theorem dX2_below_37 : decode cX2_below 37 = .ok (.invokevirtual 38, 3) := by decide +kernel
theorem dX2_below_40 : decode cX2_below 40 = .ok (.aload_n 0, 1) := by decide +kernel
theorem dX2_below_41 : decode cX2_below 41 = .ok (.iconst 1, 1) := by decide +kernel
theorem dX2_below_42 : decode cX2_below 42 = .ok (.iload_n 2, 1) := by decide +kernel
theorem dX2_below_43 : decode cX2_below 43 = .ok (.invokevirtual 38, 3) := by decide +kernel
theorem dX2_below_46 : decode cX2_below 46 = .ok (.if_icmp .gt 7, 3) := by decide +kernel
theorem dX2_below_49 : decode cX2_below 49 = .ok (.iconst 1, 1) := by decide +kernel
theorem dX2_below_50 : decode cX2_below 50 = .ok (.goto 4, 3) := by decide +kernel
theorem dX2_below_53 : decode cX2_below 53 = .ok (.iconst 0, 1) := by decide +kernel
theorem dX2_below_54 : decode cX2_below 54 = .ok (.istore_n 1, 1) := by decide +kernel
theorem dX2_below_55 : decode cX2_below 55 = .ok (.iinc 2 1, 3) := by decide +kernel
theorem dX2_below_58 : decode cX2_below 58 = .ok (.goto (-34), 3) := by decide +kernel
theorem dX2_below_61 : decode cX2_below 61 = .ok (.iload_n 1, 1) := by decide +kernel
theorem dX2_below_62 : decode cX2_below 62 = .ok (.ireturn, 1) := by decide +kernel
theorem dX2_alike_0 : decode cX2_alike 0 = .ok (.aload_n 0, 1) := by decide +kernel
theorem dX2_alike_1 : decode cX2_alike 1 = .ok (.iconst 0, 1) := by decide +kernel
theorem dX2_alike_2 : decode cX2_alike 2 = .ok (.invokevirtual 23, 3) := by decide +kernel
theorem dX2_alike_5 : decode cX2_alike 5 = .ok (.ifCond .eq 15, 3) := by decide +kernel
theorem dX2_alike_8 : decode cX2_alike 8 = .ok (.aload_n 0, 1) := by decide +kernel
theorem dX2_alike_9 : decode cX2_alike 9 = .ok (.iconst 1, 1) := by decide +kernel
theorem dX2_alike_10 : decode cX2_alike 10 = .ok (.invokevirtual 23, 3) := by decide +kernel
theorem dX2_alike_13 : decode cX2_alike 13 = .ok (.ifCond .eq 7, 3) := by decide +kernel
theorem dX2_alike_16 : decode cX2_alike 16 = .ok (.iconst 1, 1) := by decide +kernel
theorem dX2_alike_17 : decode cX2_alike 17 = .ok (.goto 4, 3) := by decide +kernel
theorem dX2_alike_20 : decode cX2_alike 20 = .ok (.iconst 0, 1) := by decide +kernel
theorem dX2_alike_21 : decode cX2_alike 21 = .ok (.istore_n 1, 1) := by decide +kernel
theorem dX2_alike_22 : decode cX2_alike 22 = .ok (.iconst 0, 1) := by decide +kernel
theorem dX2_alike_23 : decode cX2_alike 23 = .ok (.istore_n 2, 1) := by decide +kernel
theorem dX2_alike_24 : decode cX2_alike 24 = .ok (.iload_n 2, 1) := by decide +kernel
theorem dX2_alike_25 : decode cX2_alike 25 = .ok (.bipush 80, 2) := by decide +kernel
theorem dX2_alike_27 : decode cX2_alike 27 = .ok (.if_icmp .gt 34, 3) := by decide +kernel
theorem dX2_alike_30 : decode cX2_alike 30 = .ok (.iload_n 1, 1) := by decide +kernel
theorem dX2_alike_31 : decode cX2_alike 31 = .ok (.ifCond .eq 30, 3) := by decide +kernel
theorem dX2_alike_34 : decode cX2_alike 34 = .ok (.aload_n 0, 1) := by decide +kernel
theorem dX2_alike_35 : decode cX2_alike 35 = .ok (.iconst 0, 1) := by decide +kernel
theorem dX2_alike_36 : decode cX2_alike 36 = .ok (.iload_n 2, 1) := by decide +kernel
theorem dX2_alike_37 : decode cX2_alike 37 = .ok (.invokevirtual 38, 3) := by decide +kernel
theorem dX2_alike_40 : decode cX2_alike 40 = .ok (.aload_n 0, 1) := by decide +kernel
theorem dX2_alike_41 : decode cX2_alike 41 = .ok (.iconst 1, 1) := by decide +kernel
theorem dX2_alike_42 : decode cX2_alike 42 = .ok (.iload_n 2, 1) := by decide +kernel
theorem dX2_alike_43 : decode cX2_alike 43 = .ok (.invokevirtual 38, 3) := by decide +kernel
theorem dX2_alike_46 : decode cX2_alike 46 = .ok (.if_icmp .ne 7, 3) := by decide +kernel
theorem dX2_alike_49 : decode cX2_alike 49 = .ok (.iconst 1, 1) := by decide +kernel
theorem dX2_alike_50 : decode cX2_alike 50 = .ok (.goto 4, 3) := by decide +kernel
theorem dX2_alike_53 : decode cX2_alike 53 = .ok (.iconst 0, 1) := by decide +kernel
theorem dX2_alike_54 : decode cX2_alike 54 = .ok (.istore_n 1, 1) := by decide +kernel
theorem dX2_alike_55 : decode cX2_alike 55 = .ok (.iinc 2 1, 3) := by decide +kernel
theorem dX2_alike_58 : decode cX2_alike 58 = .ok (.goto (-34), 3) := by decide +kernel
theorem dX2_alike_61 : decode cX2_alike 61 = .ok (.iload_n 1, 1) := by decide +kernel
theorem dX2_alike_62 : decode cX2_alike 62 = .ok (.ireturn, 1) := by decide +kernel
theorem dX2_findApart_0 : decode cX2_findApart 0 = .ok (.iconst 0, 1) := by decide +kernel
theorem dX2_findApart_1 : decode cX2_findApart 1 = .ok (.istore_n 3, 1) := by decide +kernel
theorem dX2_findApart_2 : decode cX2_findApart 2 = .ok (.iload_n 3, 1) := by decide +kernel
theorem dX2_findApart_3 : decode cX2_findApart 3 = .ok (.bipush 80, 2) := by decide +kernel
theorem dX2_findApart_5 : decode cX2_findApart 5 = .ok (.if_icmp .gt 43, 3) := by decide +kernel
theorem dX2_findApart_8 : decode cX2_findApart 8 = .ok (.aload_n 0, 1) := by decide +kernel
theorem dX2_findApart_9 : decode cX2_findApart 9 = .ok (.iload_n 1, 1) := by decide +kernel
theorem dX2_findApart_10 : decode cX2_findApart 10 = .ok (.invokevirtual 23, 3) := by decide +kernel
theorem dX2_findApart_13 : decode cX2_findApart 13 = .ok (.ifCond .eq 35, 3) := by decide +kernel
theorem dX2_findApart_16 : decode cX2_findApart 16 = .ok (.iload_n 2, 1) := by decide +kernel
theorem dX2_findApart_17 : decode cX2_findApart 17 = .ok (.ifCond .lt 31, 3) := by decide +kernel
theorem dX2_findApart_20 : decode cX2_findApart 20 = .ok (.iload_n 2, 1) := by decide +kernel
theorem dX2_findApart_21 : decode cX2_findApart 21 = .ok (.iconst 3, 1) := by decide +kernel
theorem dX2_findApart_22 : decode cX2_findApart 22 = .ok (.if_icmp .gt 26, 3) := by decide +kernel
theorem dX2_findApart_25 : decode cX2_findApart 25 = .ok (.aload_n 0, 1) := by decide +kernel
theorem dX2_findApart_26 : decode cX2_findApart 26 = .ok (.iload_n 1, 1) := by decide +kernel
theorem dX2_findApart_27 : decode cX2_findApart 27 = .ok (.iload_n 3, 1) := by decide +kernel
theorem dX2_findApart_28 : decode cX2_findApart 28 = .ok (.invokevirtual 38, 3) := by decide +kernel
theorem dX2_findApart_31 : decode cX2_findApart 31 = .ok (.aload_n 0, 1) := by decide +kernel
theorem dX2_findApart_32 : decode cX2_findApart 32 = .ok (.iload_n 2, 1) := by decide +kernel
theorem dX2_findApart_33 : decode cX2_findApart 33 = .ok (.iload_n 3, 1) := by decide +kernel
theorem dX2_findApart_34 : decode cX2_findApart 34 = .ok (.invokevirtual 27, 3) := by decide +kernel
theorem dX2_findApart_37 : decode cX2_findApart 37 = .ok (.if_icmp .eq 5, 3) := by decide +kernel
theorem dX2_findApart_40 : decode cX2_findApart 40 = .ok (.iload_n 3, 1) := by decide +kernel
theorem dX2_findApart_41 : decode cX2_findApart 41 = .ok (.ireturn, 1) := by decide +kernel
theorem dX2_findApart_42 : decode cX2_findApart 42 = .ok (.iinc 3 1, 3) := by decide +kernel
theorem dX2_findApart_45 : decode cX2_findApart 45 = .ok (.goto (-43), 3) := by decide +kernel
theorem dX2_findApart_48 : decode cX2_findApart 48 = .ok (.iconst (-1), 1) := by decide +kernel
theorem dX2_findApart_49 : decode cX2_findApart 49 = .ok (.ireturn, 1) := by decide +kernel
end
section
set_option maxRecDepth 100000
theorem dJ0_init_0 : decode cJ0_init 0 = .ok (.return_, 1) := by decide +kernel
theorem dX0_cell_0 : decode cX0_cell 0 = .ok (.iload_n 1, 1) := by decide +kernel
theorem dX0_cell_1 : decode cX0_cell 1 = .ok (.aload_n 0, 1) := by decide +kernel
theorem dX0_cell_2 : decode cX0_cell 2 = .ok (.arraylength, 1) := by decide +kernel
theorem dX0_cell_3 : decode cX0_cell 3 = .ok (.if_icmp .ge 9, 3) := by decide +kernel
theorem dX0_cell_6 : decode cX0_cell 6 = .ok (.aload_n 0, 1) := by decide +kernel
theorem dX0_cell_7 : decode cX0_cell 7 = .ok (.iload_n 1, 1) := by decide +kernel
theorem dX0_cell_8 : decode cX0_cell 8 = .ok (.iaload, 1) := by decide +kernel
theorem dX0_cell_9 : decode cX0_cell 9 = .ok (.goto 4, 3) := by decide +kernel
theorem dX0_cell_12 : decode cX0_cell 12 = .ok (.iconst 0, 1) := by decide +kernel
theorem dX0_cell_13 : decode cX0_cell 13 = .ok (.ireturn, 1) := by decide +kernel
theorem dL_law_0 : decode cL_law 0 = .ok (.new 7, 3) := by decide +kernel
theorem dL_law_3 : decode cL_law 3 = .ok (.dup, 1) := by decide +kernel
theorem dL_law_4 : decode cL_law 4 = .ok (.aload_n 0, 1) := by decide +kernel
theorem dL_law_5 : decode cL_law 5 = .ok (.iconst 0, 1) := by decide +kernel
theorem dL_law_6 : decode cL_law 6 = .ok (.invokestatic 9, 3) := by decide +kernel
theorem dL_law_9 : decode cL_law 9 = .ok (.invokespecial 15, 3) := by decide +kernel
theorem dL_law_12 : decode cL_law 12 = .ok (.astore_n 1, 1) := by decide +kernel
theorem dL_law_13 : decode cL_law 13 = .ok (.new 18, 3) := by decide +kernel
theorem dL_law_16 : decode cL_law 16 = .ok (.dup, 1) := by decide +kernel
theorem dL_law_17 : decode cL_law 17 = .ok (.aload_n 0, 1) := by decide +kernel
theorem dL_law_18 : decode cL_law 18 = .ok (.iconst 0, 1) := by decide +kernel
theorem dL_law_19 : decode cL_law 19 = .ok (.invokestatic 9, 3) := by decide +kernel
theorem dL_law_22 : decode cL_law 22 = .ok (.invokespecial 20, 3) := by decide +kernel
theorem dL_law_25 : decode cL_law 25 = .ok (.astore_n 2, 1) := by decide +kernel
theorem dL_law_26 : decode cL_law 26 = .ok (.iconst 1, 1) := by decide +kernel
theorem dL_law_27 : decode cL_law 27 = .ok (.istore_n 3, 1) := by decide +kernel
theorem dL_law_28 : decode cL_law 28 = .ok (.iload_n 3, 1) := by decide +kernel
theorem dL_law_29 : decode cL_law 29 = .ok (.aload_n 0, 1) := by decide +kernel
theorem dL_law_30 : decode cL_law 30 = .ok (.arraylength, 1) := by decide +kernel
theorem dL_law_31 : decode cL_law 31 = .ok (.iconst 3, 1) := by decide +kernel
theorem dL_law_32 : decode cL_law 32 = .ok (.isub, 1) := by decide +kernel
theorem dL_law_33 : decode cL_law 33 = .ok (.if_icmp .gt 417, 3) := by decide +kernel
theorem dL_law_36 : decode cL_law 36 = .ok (.aload_n 0, 1) := by decide +kernel
theorem dL_law_37 : decode cL_law 37 = .ok (.iload_n 3, 1) := by decide +kernel
theorem dL_law_38 : decode cL_law 38 = .ok (.iaload, 1) := by decide +kernel
theorem dL_law_39 : decode cL_law 39 = .ok (.bipush 15, 2) := by decide +kernel
theorem dL_law_41 : decode cL_law 41 = .ok (.iand, 1) := by decide +kernel
theorem dL_law_42 : decode cL_law 42 = .ok (.tableswitch 402 0 13 #[70, 83, 106, 139, 162, 185, 218, 251, 274, 297, 330, 343, 356, 369], 70) := by decide +kernel
theorem dL_law_112 : decode cL_law 112 = .ok (.aload_n 1, 1) := by decide +kernel
theorem dL_law_113 : decode cL_law 113 = .ok (.invokevirtual 21, 3) := by decide +kernel
theorem dL_law_116 : decode cL_law 116 = .ok (.aload_n 2, 1) := by decide +kernel
theorem dL_law_117 : decode cL_law 117 = .ok (.invokevirtual 25, 3) := by decide +kernel
theorem dL_law_120 : decode cL_law 120 = .ok (.if_icmp .eq 324, 3) := by decide +kernel
theorem dL_law_123 : decode cL_law 123 = .ok (.iconst 0, 1) := by decide +kernel
theorem dL_law_124 : decode cL_law 124 = .ok (.ireturn, 1) := by decide +kernel
theorem dL_law_125 : decode cL_law 125 = .ok (.aload_n 1, 1) := by decide +kernel
theorem dL_law_126 : decode cL_law 126 = .ok (.aload_n 0, 1) := by decide +kernel
theorem dL_law_127 : decode cL_law 127 = .ok (.iload_n 3, 1) := by decide +kernel
theorem dL_law_128 : decode cL_law 128 = .ok (.iconst 1, 1) := by decide +kernel
theorem dL_law_129 : decode cL_law 129 = .ok (.iadd, 1) := by decide +kernel
theorem dL_law_130 : decode cL_law 130 = .ok (.iaload, 1) := by decide +kernel
theorem dL_law_131 : decode cL_law 131 = .ok (.invokevirtual 26, 3) := by decide +kernel
theorem dL_law_134 : decode cL_law 134 = .ok (.aload_n 2, 1) := by decide +kernel
theorem dL_law_135 : decode cL_law 135 = .ok (.aload_n 0, 1) := by decide +kernel
theorem dL_law_136 : decode cL_law 136 = .ok (.iload_n 3, 1) := by decide +kernel
theorem dL_law_137 : decode cL_law 137 = .ok (.iconst 1, 1) := by decide +kernel
theorem dL_law_138 : decode cL_law 138 = .ok (.iadd, 1) := by decide +kernel
theorem dL_law_139 : decode cL_law 139 = .ok (.iaload, 1) := by decide +kernel
theorem dL_law_140 : decode cL_law 140 = .ok (.invokevirtual 30, 3) := by decide +kernel
theorem dL_law_143 : decode cL_law 143 = .ok (.if_icmp .eq 301, 3) := by decide +kernel
theorem dL_law_146 : decode cL_law 146 = .ok (.iconst 0, 1) := by decide +kernel
theorem dL_law_147 : decode cL_law 147 = .ok (.ireturn, 1) := by decide +kernel
theorem dL_law_148 : decode cL_law 148 = .ok (.aload_n 1, 1) := by decide +kernel
theorem dL_law_149 : decode cL_law 149 = .ok (.aload_n 0, 1) := by decide +kernel
theorem dL_law_150 : decode cL_law 150 = .ok (.iload_n 3, 1) := by decide +kernel
theorem dL_law_151 : decode cL_law 151 = .ok (.iconst 1, 1) := by decide +kernel
theorem dL_law_152 : decode cL_law 152 = .ok (.iadd, 1) := by decide +kernel
theorem dL_law_153 : decode cL_law 153 = .ok (.iaload, 1) := by decide +kernel
theorem dL_law_154 : decode cL_law 154 = .ok (.aload_n 0, 1) := by decide +kernel
theorem dL_law_155 : decode cL_law 155 = .ok (.iload_n 3, 1) := by decide +kernel
theorem dL_law_156 : decode cL_law 156 = .ok (.iconst 2, 1) := by decide +kernel
theorem dL_law_157 : decode cL_law 157 = .ok (.iadd, 1) := by decide +kernel
theorem dL_law_158 : decode cL_law 158 = .ok (.iaload, 1) := by decide +kernel
theorem dL_law_159 : decode cL_law 159 = .ok (.invokevirtual 31, 3) := by decide +kernel
theorem dL_law_162 : decode cL_law 162 = .ok (.aload_n 2, 1) := by decide +kernel
theorem dL_law_163 : decode cL_law 163 = .ok (.aload_n 0, 1) := by decide +kernel
theorem dL_law_164 : decode cL_law 164 = .ok (.iload_n 3, 1) := by decide +kernel
theorem dL_law_165 : decode cL_law 165 = .ok (.iconst 1, 1) := by decide +kernel
theorem dL_law_166 : decode cL_law 166 = .ok (.iadd, 1) := by decide +kernel
theorem dL_law_167 : decode cL_law 167 = .ok (.iaload, 1) := by decide +kernel
theorem dL_law_168 : decode cL_law 168 = .ok (.aload_n 0, 1) := by decide +kernel
theorem dL_law_169 : decode cL_law 169 = .ok (.iload_n 3, 1) := by decide +kernel
theorem dL_law_170 : decode cL_law 170 = .ok (.iconst 2, 1) := by decide +kernel
theorem dL_law_171 : decode cL_law 171 = .ok (.iadd, 1) := by decide +kernel
theorem dL_law_172 : decode cL_law 172 = .ok (.iaload, 1) := by decide +kernel
theorem dL_law_173 : decode cL_law 173 = .ok (.invokevirtual 35, 3) := by decide +kernel
theorem dL_law_176 : decode cL_law 176 = .ok (.if_icmp .eq 268, 3) := by decide +kernel
theorem dL_law_179 : decode cL_law 179 = .ok (.iconst 0, 1) := by decide +kernel
theorem dL_law_180 : decode cL_law 180 = .ok (.ireturn, 1) := by decide +kernel
theorem dL_law_181 : decode cL_law 181 = .ok (.aload_n 1, 1) := by decide +kernel
theorem dL_law_182 : decode cL_law 182 = .ok (.aload_n 0, 1) := by decide +kernel
theorem dL_law_183 : decode cL_law 183 = .ok (.iload_n 3, 1) := by decide +kernel
theorem dL_law_184 : decode cL_law 184 = .ok (.iconst 1, 1) := by decide +kernel
theorem dL_law_185 : decode cL_law 185 = .ok (.iadd, 1) := by decide +kernel
theorem dL_law_186 : decode cL_law 186 = .ok (.iaload, 1) := by decide +kernel
theorem dL_law_187 : decode cL_law 187 = .ok (.invokevirtual 36, 3) := by decide +kernel
theorem dL_law_190 : decode cL_law 190 = .ok (.aload_n 2, 1) := by decide +kernel
theorem dL_law_191 : decode cL_law 191 = .ok (.aload_n 0, 1) := by decide +kernel
theorem dL_law_192 : decode cL_law 192 = .ok (.iload_n 3, 1) := by decide +kernel
theorem dL_law_193 : decode cL_law 193 = .ok (.iconst 1, 1) := by decide +kernel
theorem dL_law_194 : decode cL_law 194 = .ok (.iadd, 1) := by decide +kernel
theorem dL_law_195 : decode cL_law 195 = .ok (.iaload, 1) := by decide +kernel
theorem dL_law_196 : decode cL_law 196 = .ok (.invokevirtual 40, 3) := by decide +kernel
theorem dL_law_199 : decode cL_law 199 = .ok (.if_icmp .eq 245, 3) := by decide +kernel
theorem dL_law_202 : decode cL_law 202 = .ok (.iconst 0, 1) := by decide +kernel
theorem dL_law_203 : decode cL_law 203 = .ok (.ireturn, 1) := by decide +kernel
theorem dL_law_204 : decode cL_law 204 = .ok (.aload_n 1, 1) := by decide +kernel
theorem dL_law_205 : decode cL_law 205 = .ok (.aload_n 0, 1) := by decide +kernel
theorem dL_law_206 : decode cL_law 206 = .ok (.iload_n 3, 1) := by decide +kernel
theorem dL_law_207 : decode cL_law 207 = .ok (.iconst 1, 1) := by decide +kernel
theorem dL_law_208 : decode cL_law 208 = .ok (.iadd, 1) := by decide +kernel
theorem dL_law_209 : decode cL_law 209 = .ok (.iaload, 1) := by decide +kernel
theorem dL_law_210 : decode cL_law 210 = .ok (.invokevirtual 41, 3) := by decide +kernel
theorem dL_law_213 : decode cL_law 213 = .ok (.aload_n 2, 1) := by decide +kernel
theorem dL_law_214 : decode cL_law 214 = .ok (.aload_n 0, 1) := by decide +kernel
theorem dL_law_215 : decode cL_law 215 = .ok (.iload_n 3, 1) := by decide +kernel
theorem dL_law_216 : decode cL_law 216 = .ok (.iconst 1, 1) := by decide +kernel
theorem dL_law_217 : decode cL_law 217 = .ok (.iadd, 1) := by decide +kernel
theorem dL_law_218 : decode cL_law 218 = .ok (.iaload, 1) := by decide +kernel
theorem dL_law_219 : decode cL_law 219 = .ok (.invokevirtual 44, 3) := by decide +kernel
theorem dL_law_222 : decode cL_law 222 = .ok (.if_icmp .eq 222, 3) := by decide +kernel
theorem dL_law_225 : decode cL_law 225 = .ok (.iconst 0, 1) := by decide +kernel
theorem dL_law_226 : decode cL_law 226 = .ok (.ireturn, 1) := by decide +kernel
theorem dL_law_227 : decode cL_law 227 = .ok (.aload_n 1, 1) := by decide +kernel
theorem dL_law_228 : decode cL_law 228 = .ok (.aload_n 0, 1) := by decide +kernel
theorem dL_law_229 : decode cL_law 229 = .ok (.iload_n 3, 1) := by decide +kernel
theorem dL_law_230 : decode cL_law 230 = .ok (.iconst 1, 1) := by decide +kernel
theorem dL_law_231 : decode cL_law 231 = .ok (.iadd, 1) := by decide +kernel
theorem dL_law_232 : decode cL_law 232 = .ok (.iaload, 1) := by decide +kernel
theorem dL_law_233 : decode cL_law 233 = .ok (.aload_n 0, 1) := by decide +kernel
theorem dL_law_234 : decode cL_law 234 = .ok (.iload_n 3, 1) := by decide +kernel
theorem dL_law_235 : decode cL_law 235 = .ok (.iconst 2, 1) := by decide +kernel
theorem dL_law_236 : decode cL_law 236 = .ok (.iadd, 1) := by decide +kernel
theorem dL_law_237 : decode cL_law 237 = .ok (.iaload, 1) := by decide +kernel
theorem dL_law_238 : decode cL_law 238 = .ok (.invokevirtual 45, 3) := by decide +kernel
theorem dL_law_241 : decode cL_law 241 = .ok (.aload_n 2, 1) := by decide +kernel
theorem dL_law_242 : decode cL_law 242 = .ok (.aload_n 0, 1) := by decide +kernel
theorem dL_law_243 : decode cL_law 243 = .ok (.iload_n 3, 1) := by decide +kernel
theorem dL_law_244 : decode cL_law 244 = .ok (.iconst 1, 1) := by decide +kernel
theorem dL_law_245 : decode cL_law 245 = .ok (.iadd, 1) := by decide +kernel
theorem dL_law_246 : decode cL_law 246 = .ok (.iaload, 1) := by decide +kernel
theorem dL_law_247 : decode cL_law 247 = .ok (.aload_n 0, 1) := by decide +kernel
theorem dL_law_248 : decode cL_law 248 = .ok (.iload_n 3, 1) := by decide +kernel
theorem dL_law_249 : decode cL_law 249 = .ok (.iconst 2, 1) := by decide +kernel
theorem dL_law_250 : decode cL_law 250 = .ok (.iadd, 1) := by decide +kernel
theorem dL_law_251 : decode cL_law 251 = .ok (.iaload, 1) := by decide +kernel
theorem dL_law_252 : decode cL_law 252 = .ok (.invokevirtual 48, 3) := by decide +kernel
theorem dL_law_255 : decode cL_law 255 = .ok (.if_icmp .eq 189, 3) := by decide +kernel
theorem dL_law_258 : decode cL_law 258 = .ok (.iconst 0, 1) := by decide +kernel
theorem dL_law_259 : decode cL_law 259 = .ok (.ireturn, 1) := by decide +kernel
theorem dL_law_260 : decode cL_law 260 = .ok (.aload_n 1, 1) := by decide +kernel
theorem dL_law_261 : decode cL_law 261 = .ok (.aload_n 0, 1) := by decide +kernel
theorem dL_law_262 : decode cL_law 262 = .ok (.iload_n 3, 1) := by decide +kernel
theorem dL_law_263 : decode cL_law 263 = .ok (.iconst 1, 1) := by decide +kernel
theorem dL_law_264 : decode cL_law 264 = .ok (.iadd, 1) := by decide +kernel
theorem dL_law_265 : decode cL_law 265 = .ok (.iaload, 1) := by decide +kernel
theorem dL_law_266 : decode cL_law 266 = .ok (.aload_n 0, 1) := by decide +kernel
theorem dL_law_267 : decode cL_law 267 = .ok (.iload_n 3, 1) := by decide +kernel
theorem dL_law_268 : decode cL_law 268 = .ok (.iconst 2, 1) := by decide +kernel
theorem dL_law_269 : decode cL_law 269 = .ok (.iadd, 1) := by decide +kernel
theorem dL_law_270 : decode cL_law 270 = .ok (.iaload, 1) := by decide +kernel
theorem dL_law_271 : decode cL_law 271 = .ok (.invokevirtual 49, 3) := by decide +kernel
theorem dL_law_274 : decode cL_law 274 = .ok (.aload_n 2, 1) := by decide +kernel
theorem dL_law_275 : decode cL_law 275 = .ok (.aload_n 0, 1) := by decide +kernel
theorem dL_law_276 : decode cL_law 276 = .ok (.iload_n 3, 1) := by decide +kernel
theorem dL_law_277 : decode cL_law 277 = .ok (.iconst 1, 1) := by decide +kernel
theorem dL_law_278 : decode cL_law 278 = .ok (.iadd, 1) := by decide +kernel
theorem dL_law_279 : decode cL_law 279 = .ok (.iaload, 1) := by decide +kernel
theorem dL_law_280 : decode cL_law 280 = .ok (.aload_n 0, 1) := by decide +kernel
theorem dL_law_281 : decode cL_law 281 = .ok (.iload_n 3, 1) := by decide +kernel
theorem dL_law_282 : decode cL_law 282 = .ok (.iconst 2, 1) := by decide +kernel
theorem dL_law_283 : decode cL_law 283 = .ok (.iadd, 1) := by decide +kernel
theorem dL_law_284 : decode cL_law 284 = .ok (.iaload, 1) := by decide +kernel
theorem dL_law_285 : decode cL_law 285 = .ok (.invokevirtual 52, 3) := by decide +kernel
theorem dL_law_288 : decode cL_law 288 = .ok (.if_icmp .eq 156, 3) := by decide +kernel
theorem dL_law_291 : decode cL_law 291 = .ok (.iconst 0, 1) := by decide +kernel
theorem dL_law_292 : decode cL_law 292 = .ok (.ireturn, 1) := by decide +kernel
theorem dL_law_293 : decode cL_law 293 = .ok (.aload_n 1, 1) := by decide +kernel
theorem dL_law_294 : decode cL_law 294 = .ok (.aload_n 0, 1) := by decide +kernel
theorem dL_law_295 : decode cL_law 295 = .ok (.iload_n 3, 1) := by decide +kernel
theorem dL_law_296 : decode cL_law 296 = .ok (.iconst 1, 1) := by decide +kernel
theorem dL_law_297 : decode cL_law 297 = .ok (.iadd, 1) := by decide +kernel
theorem dL_law_298 : decode cL_law 298 = .ok (.iaload, 1) := by decide +kernel
theorem dL_law_299 : decode cL_law 299 = .ok (.invokevirtual 53, 3) := by decide +kernel
theorem dL_law_302 : decode cL_law 302 = .ok (.aload_n 2, 1) := by decide +kernel
theorem dL_law_303 : decode cL_law 303 = .ok (.aload_n 0, 1) := by decide +kernel
theorem dL_law_304 : decode cL_law 304 = .ok (.iload_n 3, 1) := by decide +kernel
theorem dL_law_305 : decode cL_law 305 = .ok (.iconst 1, 1) := by decide +kernel
theorem dL_law_306 : decode cL_law 306 = .ok (.iadd, 1) := by decide +kernel
theorem dL_law_307 : decode cL_law 307 = .ok (.iaload, 1) := by decide +kernel
theorem dL_law_308 : decode cL_law 308 = .ok (.invokevirtual 56, 3) := by decide +kernel
theorem dL_law_311 : decode cL_law 311 = .ok (.if_icmp .eq 133, 3) := by decide +kernel
theorem dL_law_314 : decode cL_law 314 = .ok (.iconst 0, 1) := by decide +kernel
theorem dL_law_315 : decode cL_law 315 = .ok (.ireturn, 1) := by decide +kernel
theorem dL_law_316 : decode cL_law 316 = .ok (.aload_n 1, 1) := by decide +kernel
theorem dL_law_317 : decode cL_law 317 = .ok (.aload_n 0, 1) := by decide +kernel
theorem dL_law_318 : decode cL_law 318 = .ok (.iload_n 3, 1) := by decide +kernel
theorem dL_law_319 : decode cL_law 319 = .ok (.iconst 1, 1) := by decide +kernel
theorem dL_law_320 : decode cL_law 320 = .ok (.iadd, 1) := by decide +kernel
theorem dL_law_321 : decode cL_law 321 = .ok (.iaload, 1) := by decide +kernel
theorem dL_law_322 : decode cL_law 322 = .ok (.invokevirtual 57, 3) := by decide +kernel
theorem dL_law_325 : decode cL_law 325 = .ok (.aload_n 2, 1) := by decide +kernel
theorem dL_law_326 : decode cL_law 326 = .ok (.aload_n 0, 1) := by decide +kernel
theorem dL_law_327 : decode cL_law 327 = .ok (.iload_n 3, 1) := by decide +kernel
theorem dL_law_328 : decode cL_law 328 = .ok (.iconst 1, 1) := by decide +kernel
theorem dL_law_329 : decode cL_law 329 = .ok (.iadd, 1) := by decide +kernel
theorem dL_law_330 : decode cL_law 330 = .ok (.iaload, 1) := by decide +kernel
theorem dL_law_331 : decode cL_law 331 = .ok (.invokevirtual 60, 3) := by decide +kernel
theorem dL_law_334 : decode cL_law 334 = .ok (.if_icmp .eq 110, 3) := by decide +kernel
theorem dL_law_337 : decode cL_law 337 = .ok (.iconst 0, 1) := by decide +kernel
theorem dL_law_338 : decode cL_law 338 = .ok (.ireturn, 1) := by decide +kernel
theorem dL_law_339 : decode cL_law 339 = .ok (.aload_n 1, 1) := by decide +kernel
theorem dL_law_340 : decode cL_law 340 = .ok (.aload_n 0, 1) := by decide +kernel
theorem dL_law_341 : decode cL_law 341 = .ok (.iload_n 3, 1) := by decide +kernel
theorem dL_law_342 : decode cL_law 342 = .ok (.iconst 1, 1) := by decide +kernel
theorem dL_law_343 : decode cL_law 343 = .ok (.iadd, 1) := by decide +kernel
theorem dL_law_344 : decode cL_law 344 = .ok (.iaload, 1) := by decide +kernel
theorem dL_law_345 : decode cL_law 345 = .ok (.aload_n 0, 1) := by decide +kernel
theorem dL_law_346 : decode cL_law 346 = .ok (.iload_n 3, 1) := by decide +kernel
theorem dL_law_347 : decode cL_law 347 = .ok (.iconst 2, 1) := by decide +kernel
theorem dL_law_348 : decode cL_law 348 = .ok (.iadd, 1) := by decide +kernel
theorem dL_law_349 : decode cL_law 349 = .ok (.iaload, 1) := by decide +kernel
theorem dL_law_350 : decode cL_law 350 = .ok (.invokevirtual 61, 3) := by decide +kernel
theorem dL_law_353 : decode cL_law 353 = .ok (.aload_n 2, 1) := by decide +kernel
theorem dL_law_354 : decode cL_law 354 = .ok (.aload_n 0, 1) := by decide +kernel
theorem dL_law_355 : decode cL_law 355 = .ok (.iload_n 3, 1) := by decide +kernel
theorem dL_law_356 : decode cL_law 356 = .ok (.iconst 1, 1) := by decide +kernel
theorem dL_law_357 : decode cL_law 357 = .ok (.iadd, 1) := by decide +kernel
theorem dL_law_358 : decode cL_law 358 = .ok (.iaload, 1) := by decide +kernel
theorem dL_law_359 : decode cL_law 359 = .ok (.aload_n 0, 1) := by decide +kernel
theorem dL_law_360 : decode cL_law 360 = .ok (.iload_n 3, 1) := by decide +kernel
theorem dL_law_361 : decode cL_law 361 = .ok (.iconst 2, 1) := by decide +kernel
theorem dL_law_362 : decode cL_law 362 = .ok (.iadd, 1) := by decide +kernel
theorem dL_law_363 : decode cL_law 363 = .ok (.iaload, 1) := by decide +kernel
theorem dL_law_364 : decode cL_law 364 = .ok (.invokevirtual 64, 3) := by decide +kernel
theorem dL_law_367 : decode cL_law 367 = .ok (.if_icmp .eq 77, 3) := by decide +kernel
theorem dL_law_370 : decode cL_law 370 = .ok (.iconst 0, 1) := by decide +kernel
theorem dL_law_371 : decode cL_law 371 = .ok (.ireturn, 1) := by decide +kernel
theorem dL_law_372 : decode cL_law 372 = .ok (.aload_n 1, 1) := by decide +kernel
theorem dL_law_373 : decode cL_law 373 = .ok (.invokevirtual 65, 3) := by decide +kernel
theorem dL_law_376 : decode cL_law 376 = .ok (.aload_n 2, 1) := by decide +kernel
theorem dL_law_377 : decode cL_law 377 = .ok (.invokevirtual 69, 3) := by decide +kernel
theorem dL_law_380 : decode cL_law 380 = .ok (.if_icmp .eq 64, 3) := by decide +kernel
theorem dL_law_383 : decode cL_law 383 = .ok (.iconst 0, 1) := by decide +kernel
theorem dL_law_384 : decode cL_law 384 = .ok (.ireturn, 1) := by decide +kernel
theorem dL_law_385 : decode cL_law 385 = .ok (.aload_n 1, 1) := by decide +kernel
theorem dL_law_386 : decode cL_law 386 = .ok (.invokevirtual 70, 3) := by decide +kernel
theorem dL_law_389 : decode cL_law 389 = .ok (.aload_n 2, 1) := by decide +kernel
theorem dL_law_390 : decode cL_law 390 = .ok (.invokevirtual 73, 3) := by decide +kernel
theorem dL_law_393 : decode cL_law 393 = .ok (.if_icmp .eq 51, 3) := by decide +kernel
theorem dL_law_396 : decode cL_law 396 = .ok (.iconst 0, 1) := by decide +kernel
theorem dL_law_397 : decode cL_law 397 = .ok (.ireturn, 1) := by decide +kernel
theorem dL_law_398 : decode cL_law 398 = .ok (.aload_n 1, 1) := by decide +kernel
theorem dL_law_399 : decode cL_law 399 = .ok (.invokevirtual 74, 3) := by decide +kernel
theorem dL_law_402 : decode cL_law 402 = .ok (.aload_n 2, 1) := by decide +kernel
theorem dL_law_403 : decode cL_law 403 = .ok (.invokevirtual 77, 3) := by decide +kernel
theorem dL_law_406 : decode cL_law 406 = .ok (.if_icmp .eq 38, 3) := by decide +kernel
theorem dL_law_409 : decode cL_law 409 = .ok (.iconst 0, 1) := by decide +kernel
theorem dL_law_410 : decode cL_law 410 = .ok (.ireturn, 1) := by decide +kernel
theorem dL_law_411 : decode cL_law 411 = .ok (.aload_n 1, 1) := by decide +kernel
theorem dL_law_412 : decode cL_law 412 = .ok (.aload_n 0, 1) := by decide +kernel
theorem dL_law_413 : decode cL_law 413 = .ok (.iload_n 3, 1) := by decide +kernel
theorem dL_law_414 : decode cL_law 414 = .ok (.iconst 1, 1) := by decide +kernel
theorem dL_law_415 : decode cL_law 415 = .ok (.iadd, 1) := by decide +kernel
theorem dL_law_416 : decode cL_law 416 = .ok (.iaload, 1) := by decide +kernel
theorem dL_law_417 : decode cL_law 417 = .ok (.aload_n 0, 1) := by decide +kernel
theorem dL_law_418 : decode cL_law 418 = .ok (.iload_n 3, 1) := by decide +kernel
theorem dL_law_419 : decode cL_law 419 = .ok (.iconst 2, 1) := by decide +kernel
theorem dL_law_420 : decode cL_law 420 = .ok (.iadd, 1) := by decide +kernel
theorem dL_law_421 : decode cL_law 421 = .ok (.iaload, 1) := by decide +kernel
theorem dL_law_422 : decode cL_law 422 = .ok (.invokevirtual 78, 3) := by decide +kernel
theorem dL_law_425 : decode cL_law 425 = .ok (.aload_n 2, 1) := by decide +kernel
theorem dL_law_426 : decode cL_law 426 = .ok (.aload_n 0, 1) := by decide +kernel
theorem dL_law_427 : decode cL_law 427 = .ok (.iload_n 3, 1) := by decide +kernel
theorem dL_law_428 : decode cL_law 428 = .ok (.iconst 1, 1) := by decide +kernel
theorem dL_law_429 : decode cL_law 429 = .ok (.iadd, 1) := by decide +kernel
theorem dL_law_430 : decode cL_law 430 = .ok (.iaload, 1) := by decide +kernel
theorem dL_law_431 : decode cL_law 431 = .ok (.aload_n 0, 1) := by decide +kernel
theorem dL_law_432 : decode cL_law 432 = .ok (.iload_n 3, 1) := by decide +kernel
theorem dL_law_433 : decode cL_law 433 = .ok (.iconst 2, 1) := by decide +kernel
theorem dL_law_434 : decode cL_law 434 = .ok (.iadd, 1) := by decide +kernel
theorem dL_law_435 : decode cL_law 435 = .ok (.iaload, 1) := by decide +kernel
theorem dL_law_436 : decode cL_law 436 = .ok (.invokevirtual 81, 3) := by decide +kernel
theorem dL_law_439 : decode cL_law 439 = .ok (.if_icmp .eq 5, 3) := by decide +kernel
theorem dL_law_442 : decode cL_law 442 = .ok (.iconst 0, 1) := by decide +kernel
theorem dL_law_443 : decode cL_law 443 = .ok (.ireturn, 1) := by decide +kernel
theorem dL_law_444 : decode cL_law 444 = .ok (.iinc 3 3, 3) := by decide +kernel
theorem dL_law_447 : decode cL_law 447 = .ok (.goto (-419), 3) := by decide +kernel
theorem dL_law_450 : decode cL_law 450 = .ok (.iconst 1, 1) := by decide +kernel
theorem dL_law_451 : decode cL_law 451 = .ok (.ireturn, 1) := by decide +kernel
end
section
set_option maxRecDepth 100000
/-! THE LAYER: a judgement G pc locals-list stack memory; the heap is a memory of naturals (field k, place j) -/
abbrev tv_M : Type := Nat → Nat → Nat
def tv_st (σ : tv_M) (k j v : Nat) : tv_M := fun k' j' => if k' = k then (if j' = j then v else σ k' j') else σ k' j'
theorem tv_st_eq (σ : tv_M) (k j v : Nat) : tv_st σ k j v k j = v := by simp [tv_st]
theorem tv_st_j {σ : tv_M} {k j v j' : Nat} (h : j' ≠ j) : tv_st σ k j v k j' = σ k j' := by simp [tv_st, h]
theorem tv_st_k {σ : tv_M} {k j v k' : Nat} (h : k' ≠ k) : tv_st σ k j v k' = σ k' := by funext j'; simp [tv_st, h]
abbrev tv_cl : List vw_C := [(RX1, TX1, 20), (RX2, TX2, 4)]
def tv_wX (h : Nat → Nat) (d : Nat → ClassId) (σ : tv_M) : va_W := [(h 0, .inr (0, [.int (nI (σ 0 0)), .ref (h 1), .ref (h 2), .ref (h 3), .ref (h 4), .ref (h 5), .int (nI (σ 6 0)), .ref (h 7), .ref (h 8), .int (nI (σ 9 0)), .int (nI (σ 10 0)), .ref (h 11), .ref (h 12), .ref (h 13), .ref (h 14), .ref (h 15), .int (nI (σ 16 0)), .int (nI (σ 17 0)), .ref (h 18), .ref (h 19)])), (h 1, .inl (d 1, 18, .inl (fun j => nI (σ 1 j)))), (h 2, .inl (d 2, 2, .inl (fun j => nI (σ 2 j)))), (h 3, .inl (d 3, 18, .inl (fun j => nI (σ 3 j)))), (h 4, .inl (d 4, 10, .inl (fun j => nI (σ 4 j)))), (h 5, .inl (d 5, 10, .inl (fun j => nI (σ 5 j)))), (h 7, .inl (d 7, 32, .inl (fun j => nI (σ 7 j)))), (h 8, .inl (d 8, 32, .inl (fun j => nI (σ 8 j)))), (h 11, .inl (d 11, 4, .inl (fun j => nI (σ 11 j)))), (h 12, .inl (d 12, 12, .inl (fun j => nI (σ 12 j)))), (h 13, .inl (d 13, 12, .inl (fun j => nI (σ 13 j)))), (h 14, .inl (d 14, 48, .inl (fun j => nI (σ 14 j)))), (h 15, .inl (d 15, 12, .inl (fun j => nI (σ 15 j) - 1))), (h 18, .inl (d 18, 4, .inl (fun j => nI (σ 18 j)))), (h 19, .inl (d 19, 18, .inl (fun j => nI (σ 19 j))))]
def tv_tX (d : Nat → ClassId) : List (ClassId × FieldType) := [(d 1, .byte), (d 2, .byte), (d 3, .byte), (d 4, .byte), (d 5, .byte), (d 7, .byte), (d 8, .byte), (d 11, .byte), (d 12, .byte), (d 13, .byte), (d 14, .byte), (d 15, .byte), (d 18, .byte), (d 19, .byte)]
def tv_wM (h : Nat → Nat) (d : Nat → ClassId) (σ : tv_M) : va_W := [(h 20, .inr (1, [.int (nI (σ 20 0)), .ref (h 21), .ref (h 22), .ref (h 23)])), (h 21, .inl (d 21, 2, .inl (fun j => nI (σ 21 j)))), (h 22, .inl (d 22, 18, .inl (fun j => nI (σ 22 j)))), (h 23, .inl (d 23, 10, .inl (fun j => nI (σ 23 j))))]
def tv_tM (d : Nat → ClassId) : List (ClassId × FieldType) := [(d 21, .int), (d 22, .int), (d 23, .int)]
/-- what a frame's places hold -/
def tv_ls (ls : Array Slot) (n : Nat) (vs : List Value) : Prop := ls.size = n ∧ lv_wf ls ∧ (∀ v ∈ vs, v.category = 1) ∧ ∀ (i : Nat) (v : Value), vs[i]? = some v → ls[i]? = some (.val v)
def tv_ix (vs : List Value) : List (Nat × Value) := (List.range vs.length).filterMap (fun i => (vs[i]?).map (fun v => (i, v)))
theorem tv_ix_mem {vs : List Value} {i : Nat} {v : Value} : (i, v) ∈ tv_ix vs ↔ vs[i]? = some v := by
  unfold tv_ix
  rw [List.mem_filterMap]
  constructor
  · rintro ⟨a, ha, h⟩
    rw [Option.map_eq_some_iff] at h
    obtain ⟨u, hu, he⟩ := h
    cases he
    exact hu
  · intro h
    exact ⟨i, List.mem_range.mpr (List.getElem?_eq_some_iff.mp h).1, by rw [h]; rfl⟩
theorem tv_ls_has {ls : Array Slot} {n : Nat} {vs : List Value} (h : tv_ls ls n vs) : lv_has ls n (tv_ix vs) := ⟨h.1, h.2.1, fun q hq => h.2.2.2 q.1 q.2 (tv_ix_mem.mp hq)⟩
def tv_pt (vs : List Value) (i : Nat) (v : Value) : List Value := if i < vs.length then vs.set i v else vs ++ [v]
theorem tv_ls_put {ls ls' : Array Slot} {n i : Nat} {vs : List Value} {x : Value} (h : tv_ls ls n vs) (hi : i ≤ vs.length) (hc : x.category = 1) (h' : lv_has ls' n ((i, x) :: (tv_ix vs).filter (fun q => !(q.1 == i) && !(q.1 + 1 == i && q.2.category == 2)))) : tv_ls ls' n (tv_pt vs i x) := by
  refine ⟨h'.1, h'.2.1, ?_, ?_⟩
  · intro v hv
    unfold tv_pt at hv
    split at hv
    · rcases List.mem_or_eq_of_mem_set hv with h1 | h1
      · exact h.2.2.1 v h1
      · rw [h1]; exact hc
    · rcases List.mem_append.mp hv with h1 | h1
      · exact h.2.2.1 v h1
      · rw [List.mem_singleton] at h1
        rw [h1]; exact hc
  · intro j v hv
    by_cases hj : j = i
    · subst hj
      have e : v = x := by
        unfold tv_pt at hv
        split at hv
        next hlt => rw [List.getElem?_set_self hlt] at hv; exact (Option.some.inj hv).symm
        next hlt =>
          have e1 : j = vs.length := by omega
          rw [e1, List.getElem?_append_right (Nat.le_refl _), Nat.sub_self] at hv
          exact (Option.some.inj hv).symm
      rw [e]
      exact h'.2.2 (j, x) List.mem_cons_self
    · have hv' : vs[j]? = some v := by
        unfold tv_pt at hv
        split at hv
        next hlt => rwa [List.getElem?_set_ne (Ne.symm hj)] at hv
        next hlt =>
          by_cases h1 : j < vs.length
          · rwa [List.getElem?_append_left h1] at hv
          · rw [List.getElem?_append_right (by omega)] at hv
            have h2 := (List.getElem?_eq_some_iff.mp hv).1
            simp only [List.length_singleton] at h2
            omega
      have hm : (j, v) ∈ tv_ix vs := tv_ix_mem.mpr hv'
      have hcat := h.2.2.1 v (List.mem_of_getElem? hv')
      exact h'.2.2 (j, v) (List.mem_cons_of_mem _ (List.mem_filter.mpr ⟨hm, by simp [hj, hcat]⟩))
theorem tv_ls_in {vs : List Value} {n : Nat} (hc : ∀ v ∈ vs, v.category = 1) (hn : vs.length ≤ n) : tv_ls ((lg_sl vs ++ List.replicate (n - (lg_sl vs).length) Slot.unset).toArray) n vs := by
  have e : lg_sl vs = vs.map Slot.val := by
    clear hn
    induction vs with
    | nil => rfl
    | cons v t ih =>
      have h1 : v.category = 1 := hc v List.mem_cons_self
      have h2 := ih (fun u hu => hc u (List.mem_cons_of_mem _ hu))
      simp only [lg_sl, List.flatMap_cons, h1, List.map_cons] at h2 ⊢
      rw [h2]
      rfl
  have hl := lv_entry vs (n := n) (by rw [e, List.length_map]; exact hn)
  refine ⟨hl.1, hl.2.1, hc, fun i v hv => ?_⟩
  have hi := (List.getElem?_eq_some_iff.mp hv).1
  rw [List.getElem?_toArray, List.getElem?_append_left (by rw [e, List.length_map]; exact hi), e, List.getElem?_map, hv]
  rfl
/-- the heap holds the memory σ as the world ω says, and nothing outside A has changed -/
def tv_X (D : va_G) (tys : List (ClassId × FieldType)) (ω : tv_M → va_W) (A : Nat → Prop) (s : State) (σ : tv_M) (H : Heap) (locs : List Loc) : Prop :=
  va_K D tv_cl tys s ∧ va_P D tv_cl (ω σ) H ∧ va_D A (ω σ) ∧ va_S A s.heap H locs
def tv_isG (l : Launch) (cc : ByteArray) (n : Nat) (own : String) (R : Room) (D : va_G) (tys : List (ClassId × FieldType)) (ω : tv_M → va_W) (E : State → (Nat → Prop) → Prop) (G : Nat → List Value → List Value → tv_M → Prop) : Prop :=
  ∃ (p : Program) (e : Env) (s : State) (m : MethodId) (args : Array Value) (below : List Frame) (meth : Method) (c : Code) (cells slots : Nat) (Q : State → Prop) (A : Nat → Prop),
    p.tables.exec = Jvm.exec ∧ c.code = cc ∧ c.maxLocals = n ∧ s.vm.findClass own = some m.cls ∧ (∀ w ∈ lw_all, w.before args s = true) ∧ (∀ q, s.heap.size ≤ q → A q) ∧ E s A ∧ cells ≤ R.cells ∧ slots ≤ R.slots ∧
    G = fun pc vs st σ => ∀ (H : Heap) (locs : List Loc) (ls : Array Slot), tv_X D tys ω A s σ H locs → tv_ls ls n vs → W p l e R s m args below meth c H locs cells slots Q (F0 m pc ls st)
section
variable {l : Launch} {cc : ByteArray} {n : Nat} {own : String} {R : Room} {D : va_G} {tys : List (ClassId × FieldType)} {ω : tv_M → va_W} {E : State → (Nat → Prop) → Prop} {G : Nat → List Value → List Value → tv_M → Prop} {pc : Nat} {vs st : List Value} {σ : tv_M}
theorem tv_iconst (hG : tv_isG l cc n own R D tys ω E G) {a : Int} {x : Int32} (hd : decode cc pc = .ok (.iconst a, 1)) (hv : Int32.ofInt a = x) (k : G (pc + 1) vs (.int x :: st) σ) : G pc vs st σ := by
  obtain ⟨p, e, s, m, args, below, meth, c, cells, slots, Q, A, hx, hb, hml, hown, hts, hA, hE, hc1, hc2, rfl⟩ := hG
  intro H locs ls hX hl
  exact lv_iconst hx hb hd hv (k H locs ls hX hl)
theorem tv_bipush (hG : tv_isG l cc n own R D tys ω E G) {a : Int} {x : Int32} (hd : decode cc pc = .ok (.bipush a, 2)) (hv : (Int8.ofInt a).toInt32 = x) (k : G (pc + 2) vs (.int x :: st) σ) : G pc vs st σ := by
  obtain ⟨p, e, s, m, args, below, meth, c, cells, slots, Q, A, hx, hb, hml, hown, hts, hA, hE, hc1, hc2, rfl⟩ := hG
  intro H locs ls hX hl
  exact lv_bipush hx hb hd hv (k H locs ls hX hl)
theorem tv_ldc (hG : tv_isG l cc n own R D tys ω E G) {idx : Nat} {x : Int32} (w1 : Cond.constant own idx x ∈ lw_all) (hd : decode cc pc = .ok (.ldc idx, 2)) (k : G (pc + 2) vs (.int x :: st) σ) : G pc vs st σ := by
  obtain ⟨p, e, s, m, args, below, meth, c, cells, slots, Q, A, hx, hb, hml, hown, hts, hA, hE, hc1, hc2, rfl⟩ := hG
  intro H locs ls hX hl
  exact lv_ldc hx hb hown (hts _ w1) hd (k H locs ls hX hl)
theorem tv_iload_n (hG : tv_isG l cc n own R D tys ω E G) {q : Fin 4} {i : Nat} {x : Int32} (hd : decode cc pc = .ok (.iload_n q, 1)) (hi : (q : Nat) = i) (hv : vs[i]? = some (.int x)) (k : G (pc + 1) vs (.int x :: st) σ) : G pc vs st σ := by
  obtain ⟨p, e, s, m, args, below, meth, c, cells, slots, Q, A, hx, hb, hml, hown, hts, hA, hE, hc1, hc2, rfl⟩ := hG
  intro H locs ls hX hl
  exact lv_iload_n hx hb hd hi (hl.2.2.2 _ _ hv) (k H locs ls hX hl)
theorem tv_iload (hG : tv_isG l cc n own R D tys ω E G) {i : Nat} {x : Int32} (hd : decode cc pc = .ok (.iload i, 2)) (hv : vs[i]? = some (.int x)) (k : G (pc + 2) vs (.int x :: st) σ) : G pc vs st σ := by
  obtain ⟨p, e, s, m, args, below, meth, c, cells, slots, Q, A, hx, hb, hml, hown, hts, hA, hE, hc1, hc2, rfl⟩ := hG
  intro H locs ls hX hl
  exact lv_iload hx hb hd (hl.2.2.2 _ _ hv) (k H locs ls hX hl)
theorem tv_aload_n (hG : tv_isG l cc n own R D tys ω E G) {q : Fin 4} {i x : Nat} (hd : decode cc pc = .ok (.aload_n q, 1)) (hi : (q : Nat) = i) (hv : vs[i]? = some (.ref x)) (k : G (pc + 1) vs (.ref x :: st) σ) : G pc vs st σ := by
  obtain ⟨p, e, s, m, args, below, meth, c, cells, slots, Q, A, hx, hb, hml, hown, hts, hA, hE, hc1, hc2, rfl⟩ := hG
  intro H locs ls hX hl
  exact lv_aload_n hx hb hd hi (hl.2.2.2 _ _ hv) (k H locs ls hX hl)
theorem tv_istore_n (hG : tv_isG l cc n own R D tys ω E G) {q : Fin 4} {i : Nat} {x : Int32} {vs1 : List Value} (hd : decode cc pc = .ok (.istore_n q, 1)) (hi : (q : Nat) = i) (hn : i < n) (hle : i ≤ vs.length) (hp : tv_pt vs i (.int x) = vs1) (k : G (pc + 1) vs1 st σ) : G pc vs (.int x :: st) σ := by
  obtain ⟨p, e, s, m, args, below, meth, c, cells, slots, Q, A, hx, hb, hml, hown, hts, hA, hE, hc1, hc2, rfl⟩ := hG
  intro H locs ls hX hl
  subst hp
  exact lv_istore_n hx hb hd hi (tv_ls_has hl) hn rfl (fun ls1 h1 => k H locs ls1 hX (tv_ls_put hl hle rfl h1))
theorem tv_istore (hG : tv_isG l cc n own R D tys ω E G) {i : Nat} {x : Int32} {vs1 : List Value} (hd : decode cc pc = .ok (.istore i, 2)) (hn : i < n) (hle : i ≤ vs.length) (hp : tv_pt vs i (.int x) = vs1) (k : G (pc + 2) vs1 st σ) : G pc vs (.int x :: st) σ := by
  obtain ⟨p, e, s, m, args, below, meth, c, cells, slots, Q, A, hx, hb, hml, hown, hts, hA, hE, hc1, hc2, rfl⟩ := hG
  intro H locs ls hX hl
  subst hp
  exact lv_istore hx hb hd (tv_ls_has hl) hn rfl (fun ls1 h1 => k H locs ls1 hX (tv_ls_put hl hle rfl h1))
theorem tv_iinc (hG : tv_isG l cc n own R D tys ω E G) {i : Nat} {a : Int} {x y : Int32} {vs1 : List Value} (hd : decode cc pc = .ok (.iinc i a, 3)) (hv : vs[i]? = some (.int x)) (hy : x + Int32.ofInt a = y) (hn : i < n) (hp : tv_pt vs i (.int y) = vs1) (k : G (pc + 3) vs1 st σ) : G pc vs st σ := by
  obtain ⟨p, e, s, m, args, below, meth, c, cells, slots, Q, A, hx, hb, hml, hown, hts, hA, hE, hc1, hc2, rfl⟩ := hG
  intro H locs ls hX hl
  subst hp
  have hlt := (List.getElem?_eq_some_iff.mp hv).1
  obtain ⟨q, hq⟩ := List.mem_iff_getElem?.mp (tv_ix_mem.mpr hv)
  exact lv_iinc hx hb hd (tv_ls_has hl) hq hy hn rfl (fun ls1 h1 => k H locs ls1 hX (tv_ls_put hl (Nat.le_of_lt hlt) rfl h1))
theorem tv_ziadd (hG : tv_isG l cc n own R D tys ω E G) {x y z : Int32} (hd : decode cc pc = .ok (.iadd, 1)) (hz : x + y = z) (k : G (pc + 1) vs (.int z :: st) σ) : G pc vs (.int y :: .int x :: st) σ := by
  obtain ⟨p, e, s, m, args, below, meth, c, cells, slots, Q, A, hx, hb, hml, hown, hts, hA, hE, hc1, hc2, rfl⟩ := hG
  intro H locs ls hX hl
  subst hz
  exact lv_iadd hx hb hd (k H locs ls hX hl)
theorem tv_zisub (hG : tv_isG l cc n own R D tys ω E G) {x y z : Int32} (hd : decode cc pc = .ok (.isub, 1)) (hz : x - y = z) (k : G (pc + 1) vs (.int z :: st) σ) : G pc vs (.int y :: .int x :: st) σ := by
  obtain ⟨p, e, s, m, args, below, meth, c, cells, slots, Q, A, hx, hb, hml, hown, hts, hA, hE, hc1, hc2, rfl⟩ := hG
  intro H locs ls hX hl
  subst hz
  exact lv_isub hx hb hd (k H locs ls hX hl)
theorem tv_zimul (hG : tv_isG l cc n own R D tys ω E G) {x y z : Int32} (hd : decode cc pc = .ok (.imul, 1)) (hz : x * y = z) (k : G (pc + 1) vs (.int z :: st) σ) : G pc vs (.int y :: .int x :: st) σ := by
  obtain ⟨p, e, s, m, args, below, meth, c, cells, slots, Q, A, hx, hb, hml, hown, hts, hA, hE, hc1, hc2, rfl⟩ := hG
  intro H locs ls hX hl
  subst hz
  exact lv_imul hx hb hd (k H locs ls hX hl)
theorem tv_ziand (hG : tv_isG l cc n own R D tys ω E G) {x y z : Int32} (hd : decode cc pc = .ok (.iand, 1)) (hz : x &&& y = z) (k : G (pc + 1) vs (.int z :: st) σ) : G pc vs (.int y :: .int x :: st) σ := by
  obtain ⟨p, e, s, m, args, below, meth, c, cells, slots, Q, A, hx, hb, hml, hown, hts, hA, hE, hc1, hc2, rfl⟩ := hG
  intro H locs ls hX hl
  subst hz
  exact lv_iand hx hb hd (k H locs ls hX hl)
theorem tv_zior (hG : tv_isG l cc n own R D tys ω E G) {x y z : Int32} (hd : decode cc pc = .ok (.ior, 1)) (hz : x ||| y = z) (k : G (pc + 1) vs (.int z :: st) σ) : G pc vs (.int y :: .int x :: st) σ := by
  obtain ⟨p, e, s, m, args, below, meth, c, cells, slots, Q, A, hx, hb, hml, hown, hts, hA, hE, hc1, hc2, rfl⟩ := hG
  intro H locs ls hX hl
  subst hz
  exact lv_ior hx hb hd (k H locs ls hX hl)
theorem tv_zixor (hG : tv_isG l cc n own R D tys ω E G) {x y z : Int32} (hd : decode cc pc = .ok (.ixor, 1)) (hz : x ^^^ y = z) (k : G (pc + 1) vs (.int z :: st) σ) : G pc vs (.int y :: .int x :: st) σ := by
  obtain ⟨p, e, s, m, args, below, meth, c, cells, slots, Q, A, hx, hb, hml, hown, hts, hA, hE, hc1, hc2, rfl⟩ := hG
  intro H locs ls hX hl
  subst hz
  exact lv_ixor hx hb hd (k H locs ls hX hl)
theorem tv_zishl (hG : tv_isG l cc n own R D tys ω E G) {x y z : Int32} (hd : decode cc pc = .ok (.ishl, 1)) (hz : x <<< (y &&& 31) = z) (k : G (pc + 1) vs (.int z :: st) σ) : G pc vs (.int y :: .int x :: st) σ := by
  obtain ⟨p, e, s, m, args, below, meth, c, cells, slots, Q, A, hx, hb, hml, hown, hts, hA, hE, hc1, hc2, rfl⟩ := hG
  intro H locs ls hX hl
  subst hz
  exact lv_ishl hx hb hd (k H locs ls hX hl)
theorem tv_zishr (hG : tv_isG l cc n own R D tys ω E G) {x y z : Int32} (hd : decode cc pc = .ok (.ishr, 1)) (hz : x >>> (y &&& 31) = z) (k : G (pc + 1) vs (.int z :: st) σ) : G pc vs (.int y :: .int x :: st) σ := by
  obtain ⟨p, e, s, m, args, below, meth, c, cells, slots, Q, A, hx, hb, hml, hown, hts, hA, hE, hc1, hc2, rfl⟩ := hG
  intro H locs ls hX hl
  subst hz
  exact lv_ishr hx hb hd (k H locs ls hX hl)
theorem tv_zidiv (hG : tv_isG l cc n own R D tys ω E G) {x y z : Int32} (hd : decode cc pc = .ok (.idiv, 1)) (hne : ¬ y = 0) (hz : x / y = z) (k : G (pc + 1) vs (.int z :: st) σ) : G pc vs (.int y :: .int x :: st) σ := by
  obtain ⟨p, e, s, m, args, below, meth, c, cells, slots, Q, A, hx, hb, hml, hown, hts, hA, hE, hc1, hc2, rfl⟩ := hG
  intro H locs ls hX hl
  subst hz
  exact lv_idiv hx hb hd hne (k H locs ls hX hl)
theorem tv_zirem (hG : tv_isG l cc n own R D tys ω E G) {x y z : Int32} (hd : decode cc pc = .ok (.irem, 1)) (hne : ¬ y = 0) (hz : x - x / y * y = z) (k : G (pc + 1) vs (.int z :: st) σ) : G pc vs (.int y :: .int x :: st) σ := by
  obtain ⟨p, e, s, m, args, below, meth, c, cells, slots, Q, A, hx, hb, hml, hown, hts, hA, hE, hc1, hc2, rfl⟩ := hG
  intro H locs ls hX hl
  subst hz
  exact lv_irem hx hb hd hne (k H locs ls hX hl)
theorem tv_zi2b (hG : tv_isG l cc n own R D tys ω E G) {x z : Int32} (hd : decode cc pc = .ok (.i2b, 1)) (hz : x.toInt8.toInt32 = z) (k : G (pc + 1) vs (.int z :: st) σ) : G pc vs (.int x :: st) σ := by
  obtain ⟨p, e, s, m, args, below, meth, c, cells, slots, Q, A, hx, hb, hml, hown, hts, hA, hE, hc1, hc2, rfl⟩ := hG
  intro H locs ls hX hl
  exact lv_i2b hx hb hd hz (k H locs ls hX hl)
theorem tv_dup (hG : tv_isG l cc n own R D tys ω E G) {u : Value} (hd : decode cc pc = .ok (.dup, 1)) (hu : u.category = 1) (k : G (pc + 1) vs (u :: u :: st) σ) : G pc vs (u :: st) σ := by
  obtain ⟨p, e, s, m, args, below, meth, c, cells, slots, Q, A, hx, hb, hml, hown, hts, hA, hE, hc1, hc2, rfl⟩ := hG
  intro H locs ls hX hl
  exact lv_dup hx hb hd hu (k H locs ls hX hl)
theorem tv_dup2 (hG : tv_isG l cc n own R D tys ω E G) {u v : Value} (hd : decode cc pc = .ok (.dup2, 1)) (hu : u.category = 1) (hv : v.category = 1) (k : G (pc + 1) vs (u :: v :: u :: v :: st) σ) : G pc vs (u :: v :: st) σ := by
  obtain ⟨p, e, s, m, args, below, meth, c, cells, slots, Q, A, hx, hb, hml, hown, hts, hA, hE, hc1, hc2, rfl⟩ := hG
  intro H locs ls hX hl
  exact lv_dup2_11 hx hb hd hu hv (k H locs ls hX hl)
theorem tv_zicmp_eq (hG : tv_isG l cc n own R D tys ω E G) {x y : Int32} {off : Int} {tgt : Nat} (hd : decode cc pc = .ok (.if_icmp .eq off, 3)) (ht : (pc : Int) + off = (tgt : Int)) (kt : x = y → G tgt vs st σ) (kf : ¬ x = y → G (pc + 3) vs st σ) : G pc vs (.int y :: .int x :: st) σ := by
  obtain ⟨p, e, s, m, args, below, meth, c, cells, slots, Q, A, hx, hb, hml, hown, hts, hA, hE, hc1, hc2, rfl⟩ := hG
  intro H locs ls hX hl
  exact lv_icmp_eq hx hb hd ht (fun q => kt q H locs ls hX hl) (fun q => kf q H locs ls hX hl)
theorem tv_zicmp_ne (hG : tv_isG l cc n own R D tys ω E G) {x y : Int32} {off : Int} {tgt : Nat} (hd : decode cc pc = .ok (.if_icmp .ne off, 3)) (ht : (pc : Int) + off = (tgt : Int)) (kt : ¬ x = y → G tgt vs st σ) (kf : x = y → G (pc + 3) vs st σ) : G pc vs (.int y :: .int x :: st) σ := by
  obtain ⟨p, e, s, m, args, below, meth, c, cells, slots, Q, A, hx, hb, hml, hown, hts, hA, hE, hc1, hc2, rfl⟩ := hG
  intro H locs ls hX hl
  exact lv_icmp_ne hx hb hd ht (fun q => kt q H locs ls hX hl) (fun q => kf q H locs ls hX hl)
theorem tv_zicmp_lt (hG : tv_isG l cc n own R D tys ω E G) {x y : Int32} {off : Int} {tgt : Nat} (hd : decode cc pc = .ok (.if_icmp .lt off, 3)) (ht : (pc : Int) + off = (tgt : Int)) (kt : x < y → G tgt vs st σ) (kf : ¬ x < y → G (pc + 3) vs st σ) : G pc vs (.int y :: .int x :: st) σ := by
  obtain ⟨p, e, s, m, args, below, meth, c, cells, slots, Q, A, hx, hb, hml, hown, hts, hA, hE, hc1, hc2, rfl⟩ := hG
  intro H locs ls hX hl
  exact lv_icmp_lt hx hb hd ht (fun q => kt q H locs ls hX hl) (fun q => kf q H locs ls hX hl)
theorem tv_zicmp_ge (hG : tv_isG l cc n own R D tys ω E G) {x y : Int32} {off : Int} {tgt : Nat} (hd : decode cc pc = .ok (.if_icmp .ge off, 3)) (ht : (pc : Int) + off = (tgt : Int)) (kt : y ≤ x → G tgt vs st σ) (kf : ¬ y ≤ x → G (pc + 3) vs st σ) : G pc vs (.int y :: .int x :: st) σ := by
  obtain ⟨p, e, s, m, args, below, meth, c, cells, slots, Q, A, hx, hb, hml, hown, hts, hA, hE, hc1, hc2, rfl⟩ := hG
  intro H locs ls hX hl
  exact lv_icmp_ge hx hb hd ht (fun q => kt q H locs ls hX hl) (fun q => kf q H locs ls hX hl)
theorem tv_zicmp_gt (hG : tv_isG l cc n own R D tys ω E G) {x y : Int32} {off : Int} {tgt : Nat} (hd : decode cc pc = .ok (.if_icmp .gt off, 3)) (ht : (pc : Int) + off = (tgt : Int)) (kt : y < x → G tgt vs st σ) (kf : ¬ y < x → G (pc + 3) vs st σ) : G pc vs (.int y :: .int x :: st) σ := by
  obtain ⟨p, e, s, m, args, below, meth, c, cells, slots, Q, A, hx, hb, hml, hown, hts, hA, hE, hc1, hc2, rfl⟩ := hG
  intro H locs ls hX hl
  exact lv_icmp_gt hx hb hd ht (fun q => kt q H locs ls hX hl) (fun q => kf q H locs ls hX hl)
theorem tv_zicmp_le (hG : tv_isG l cc n own R D tys ω E G) {x y : Int32} {off : Int} {tgt : Nat} (hd : decode cc pc = .ok (.if_icmp .le off, 3)) (ht : (pc : Int) + off = (tgt : Int)) (kt : x ≤ y → G tgt vs st σ) (kf : ¬ x ≤ y → G (pc + 3) vs st σ) : G pc vs (.int y :: .int x :: st) σ := by
  obtain ⟨p, e, s, m, args, below, meth, c, cells, slots, Q, A, hx, hb, hml, hown, hts, hA, hE, hc1, hc2, rfl⟩ := hG
  intro H locs ls hX hl
  exact lv_icmp_le hx hb hd ht (fun q => kt q H locs ls hX hl) (fun q => kf q H locs ls hX hl)
theorem tv_zif_eq (hG : tv_isG l cc n own R D tys ω E G) {x : Int32} {off : Int} {tgt : Nat} (hd : decode cc pc = .ok (.ifCond .eq off, 3)) (ht : (pc : Int) + off = (tgt : Int)) (kt : x = 0 → G tgt vs st σ) (kf : ¬ x = 0 → G (pc + 3) vs st σ) : G pc vs (.int x :: st) σ := by
  obtain ⟨p, e, s, m, args, below, meth, c, cells, slots, Q, A, hx, hb, hml, hown, hts, hA, hE, hc1, hc2, rfl⟩ := hG
  intro H locs ls hX hl
  exact lv_if_eq hx hb hd ht (fun q => kt q H locs ls hX hl) (fun q => kf q H locs ls hX hl)
theorem tv_zif_ne (hG : tv_isG l cc n own R D tys ω E G) {x : Int32} {off : Int} {tgt : Nat} (hd : decode cc pc = .ok (.ifCond .ne off, 3)) (ht : (pc : Int) + off = (tgt : Int)) (kt : ¬ x = 0 → G tgt vs st σ) (kf : x = 0 → G (pc + 3) vs st σ) : G pc vs (.int x :: st) σ := by
  obtain ⟨p, e, s, m, args, below, meth, c, cells, slots, Q, A, hx, hb, hml, hown, hts, hA, hE, hc1, hc2, rfl⟩ := hG
  intro H locs ls hX hl
  exact lv_if_ne hx hb hd ht (fun q => kt q H locs ls hX hl) (fun q => kf q H locs ls hX hl)
theorem tv_zif_lt (hG : tv_isG l cc n own R D tys ω E G) {x : Int32} {off : Int} {tgt : Nat} (hd : decode cc pc = .ok (.ifCond .lt off, 3)) (ht : (pc : Int) + off = (tgt : Int)) (kt : x < 0 → G tgt vs st σ) (kf : ¬ x < 0 → G (pc + 3) vs st σ) : G pc vs (.int x :: st) σ := by
  obtain ⟨p, e, s, m, args, below, meth, c, cells, slots, Q, A, hx, hb, hml, hown, hts, hA, hE, hc1, hc2, rfl⟩ := hG
  intro H locs ls hX hl
  exact lv_if_lt hx hb hd ht (fun q => kt q H locs ls hX hl) (fun q => kf q H locs ls hX hl)
theorem tv_zif_ge (hG : tv_isG l cc n own R D tys ω E G) {x : Int32} {off : Int} {tgt : Nat} (hd : decode cc pc = .ok (.ifCond .ge off, 3)) (ht : (pc : Int) + off = (tgt : Int)) (kt : 0 ≤ x → G tgt vs st σ) (kf : ¬ 0 ≤ x → G (pc + 3) vs st σ) : G pc vs (.int x :: st) σ := by
  obtain ⟨p, e, s, m, args, below, meth, c, cells, slots, Q, A, hx, hb, hml, hown, hts, hA, hE, hc1, hc2, rfl⟩ := hG
  intro H locs ls hX hl
  exact lv_if_ge hx hb hd ht (fun q => kt q H locs ls hX hl) (fun q => kf q H locs ls hX hl)
theorem tv_zif_gt (hG : tv_isG l cc n own R D tys ω E G) {x : Int32} {off : Int} {tgt : Nat} (hd : decode cc pc = .ok (.ifCond .gt off, 3)) (ht : (pc : Int) + off = (tgt : Int)) (kt : 0 < x → G tgt vs st σ) (kf : ¬ 0 < x → G (pc + 3) vs st σ) : G pc vs (.int x :: st) σ := by
  obtain ⟨p, e, s, m, args, below, meth, c, cells, slots, Q, A, hx, hb, hml, hown, hts, hA, hE, hc1, hc2, rfl⟩ := hG
  intro H locs ls hX hl
  exact lv_if_gt hx hb hd ht (fun q => kt q H locs ls hX hl) (fun q => kf q H locs ls hX hl)
theorem tv_zif_le (hG : tv_isG l cc n own R D tys ω E G) {x : Int32} {off : Int} {tgt : Nat} (hd : decode cc pc = .ok (.ifCond .le off, 3)) (ht : (pc : Int) + off = (tgt : Int)) (kt : x ≤ 0 → G tgt vs st σ) (kf : ¬ x ≤ 0 → G (pc + 3) vs st σ) : G pc vs (.int x :: st) σ := by
  obtain ⟨p, e, s, m, args, below, meth, c, cells, slots, Q, A, hx, hb, hml, hown, hts, hA, hE, hc1, hc2, rfl⟩ := hG
  intro H locs ls hX hl
  exact lv_if_le hx hb hd ht (fun q => kt q H locs ls hX hl) (fun q => kf q H locs ls hX hl)
theorem tv_goto (hG : tv_isG l cc n own R D tys ω E G) {off : Int} {tgt : Nat} (hd : decode cc pc = .ok (.goto off, 3)) (ht : (pc : Int) + off = (tgt : Int)) (k : G tgt vs st σ) : G pc vs st σ := by
  obtain ⟨p, e, s, m, args, below, meth, c, cells, slots, Q, A, hx, hb, hml, hown, hts, hA, hE, hc1, hc2, rfl⟩ := hG
  intro H locs ls hX hl
  exact lv_goto hx hb hd ht (k H locs ls hX hl)
theorem tv_drop (hG : tv_isG l cc n own R D tys ω E G) {vs1 : List Value} (hp : vs1 <+: vs) (k : G pc vs1 st σ) : G pc vs st σ := by
  obtain ⟨p, e, s, m, args, below, meth, c, cells, slots, Q, A, hx, hb, hml, hown, hts, hA, hE, hc1, hc2, rfl⟩ := hG
  intro H locs ls hX hl
  exact k H locs ls hX ⟨hl.1, hl.2.1, fun v hv => hl.2.2.1 v (hp.subset hv), fun i v hv => hl.2.2.2 i v (by
    obtain ⟨t, rfl⟩ := hp
    rw [List.getElem?_append_left (List.getElem?_eq_some_iff.mp hv).1]; exact hv)⟩
theorem tv_swIn (hG : tv_isG l cc n own R D tys ω E G) {dflt lo hi : Int} {offs : Array Int} {len : Nat} {x : Int32} {off : Int} {tgt : Nat} (hd : decode cc pc = .ok (.tableswitch dflt lo hi offs, len)) (h1 : ¬ x.toInt < lo) (h2 : ¬ hi < x.toInt) (ho : offs[(x.toInt - lo).toNat]? = some off) (ht : (pc : Int) + off = (tgt : Int)) (k : G tgt vs st σ) : G pc vs (.int x :: st) σ := by
  obtain ⟨p, e, s, m, args, below, meth, c, cells, slots, Q, A, hx, hb, hml, hown, hts, hA, hE, hc1, hc2, rfl⟩ := hG
  intro H locs ls hX hl
  exact lv_tableIn hx hb hd h1 h2 ho ht (k H locs ls hX hl)
theorem tv_swOut (hG : tv_isG l cc n own R D tys ω E G) {dflt lo hi : Int} {offs : Array Int} {len : Nat} {x : Int32} {tgt : Nat} (hd : decode cc pc = .ok (.tableswitch dflt lo hi offs, len)) (h : x.toInt < lo ∨ hi < x.toInt) (ht : (pc : Int) + dflt = (tgt : Int)) (k : G tgt vs st σ) : G pc vs (.int x :: st) σ := by
  obtain ⟨p, e, s, m, args, below, meth, c, cells, slots, Q, A, hx, hb, hml, hown, hts, hA, hE, hc1, hc2, rfl⟩ := hG
  intro H locs ls hX hl
  exact lv_tableOut hx hb hd h ht (k H locs ls hX hl)
end
/-! numbers -/
theorem tv_e0 {a : Nat} (h : a < 2147483648) : nI a = 0 ↔ a = 0 := by rw [← nI_0]; exact nI_eq h (by decide)
theorem tv_s_l : ∀ k, k < 32 → ((nI k &&& 31).toBitVec.smod 32).toNat = k := by decide +kernel
theorem tv_bv {x y : Int32} (h : x.toBitVec = y.toBitVec) : x = y := Int32.toBitVec.inj h
theorem tv_nbv (a : Nat) : (nI a).toBitVec = BitVec.ofNat 32 a := rfl
theorem tv_and (a b : Nat) : nI a &&& nI b = nI (a &&& b) := by
  apply tv_bv
  rw [Int32.toBitVec_and, tv_nbv, tv_nbv, tv_nbv]
  apply BitVec.eq_of_toNat_eq
  simp [BitVec.toNat_and, BitVec.toNat_ofNat, Nat.and_mod_two_pow]
theorem tv_or (a b : Nat) : nI a ||| nI b = nI (a ||| b) := by
  apply tv_bv
  rw [Int32.toBitVec_or, tv_nbv, tv_nbv, tv_nbv]
  apply BitVec.eq_of_toNat_eq
  simp [BitVec.toNat_or, BitVec.toNat_ofNat, Nat.or_mod_two_pow]
theorem tv_byte : ∀ v, v < 128 → (nI v).toInt8.toInt32 = nI v := by decide +kernel
theorem tv_updB (f : Nat → Nat) {j v : Nat} (hj : j < 2147483648) (hv : v < 128) : upd (fun i => nI (f i)) (nI j).toNatClampNeg (vp_nar .byte (nI v)) = fun i => nI (if i = j then v else f i) := by
  rw [nI_clamp hj, vp_nar_byte, tv_byte v hv]
  funext i
  unfold upd
  split <;> rfl
theorem tv_updI (f : Nat → Nat) {j v : Nat} (hj : j < 2147483648) : upd (fun i => nI (f i)) (nI j).toNatClampNeg (nI v) = fun i => nI (if i = j then v else f i) := by
  rw [nI_clamp hj]
  funext i
  unfold upd
  split <;> rfl
theorem tv_byte1 : ∀ v, v < 128 → (nI v - 1).toInt8.toInt32 = nI v - 1 := by decide +kernel
theorem tv_updT (f : Nat → Nat) {j v : Nat} (hj : j < 2147483648) (hv : v < 128) : upd (fun i => nI (f i) - 1) (nI j).toNatClampNeg (vp_nar .byte (nI v - 1)) = fun i => nI (if i = j then v else f i) - 1 := by
  rw [nI_clamp hj, vp_nar_byte, tv_byte1 v hv]
  funext i
  unfold upd
  split <;> rfl
theorem tv_pred (a : Nat) : nI a - 1 + 1 = nI a := by
  apply tv_bv
  simp [Int32.toBitVec_add, Int32.toBitVec_sub]
section
variable {l : Launch} {cc : ByteArray} {n : Nat} {own : String} {R : Room} {D : va_G} {tys : List (ClassId × FieldType)} {ω : tv_M → va_W} {E : State → (Nat → Prop) → Prop} {G : Nat → List Value → List Value → tv_M → Prop} {pc : Nat} {vs st : List Value} {σ : tv_M}
theorem tv_iadd (hG : tv_isG l cc n own R D tys ω E G) {a b : Nat} (hd : decode cc pc = .ok (.iadd, 1)) (k : G (pc + 1) vs (.int (nI (a + b)) :: st) σ) : G pc vs (.int (nI b) :: .int (nI a) :: st) σ := tv_ziadd hG hd (nI_add a b) k
theorem tv_isub (hG : tv_isG l cc n own R D tys ω E G) {a b : Nat} (hd : decode cc pc = .ok (.isub, 1)) (h : b ≤ a) (k : G (pc + 1) vs (.int (nI (a - b)) :: st) σ) : G pc vs (.int (nI b) :: .int (nI a) :: st) σ := tv_zisub hG hd (pk_sub h) k
theorem tv_imul (hG : tv_isG l cc n own R D tys ω E G) {a b : Nat} (hd : decode cc pc = .ok (.imul, 1)) (k : G (pc + 1) vs (.int (nI (a * b)) :: st) σ) : G pc vs (.int (nI b) :: .int (nI a) :: st) σ := tv_zimul hG hd (pk_mul a b) k
theorem tv_idiv (hG : tv_isG l cc n own R D tys ω E G) {a b : Nat} (hd : decode cc pc = .ok (.idiv, 1)) (ha : a < 2147483648) (h0 : 0 < b) (hb : b < 2147483648) (k : G (pc + 1) vs (.int (nI (a / b)) :: st) σ) : G pc vs (.int (nI b) :: .int (nI a) :: st) σ := tv_zidiv hG hd (nI_ne0 h0 hb) (pk_div ha h0 hb) k
theorem tv_irem (hG : tv_isG l cc n own R D tys ω E G) {a b : Nat} (hd : decode cc pc = .ok (.irem, 1)) (ha : a < 2147483648) (h0 : 0 < b) (hb : b < 2147483648) (k : G (pc + 1) vs (.int (nI (a % b)) :: st) σ) : G pc vs (.int (nI b) :: .int (nI a) :: st) σ := tv_zirem hG hd (nI_ne0 h0 hb) (pk_rem ha h0 hb) k
theorem tv_iand (hG : tv_isG l cc n own R D tys ω E G) {a b : Nat} (hd : decode cc pc = .ok (.iand, 1)) (k : G (pc + 1) vs (.int (nI (a &&& b)) :: st) σ) : G pc vs (.int (nI b) :: .int (nI a) :: st) σ := tv_ziand hG hd (tv_and a b) k
theorem tv_ior (hG : tv_isG l cc n own R D tys ω E G) {a b : Nat} (hd : decode cc pc = .ok (.ior, 1)) (k : G (pc + 1) vs (.int (nI (a ||| b)) :: st) σ) : G pc vs (.int (nI b) :: .int (nI a) :: st) σ := tv_zior hG hd (tv_or a b) k
theorem tv_ishl (hG : tv_isG l cc n own R D tys ω E G) {a b : Nat} (hd : decode cc pc = .ok (.ishl, 1)) (hb : b < 32) (h : a * 2 ^ b < 2 ^ 32) (k : G (pc + 1) vs (.int (nI (a * 2 ^ b)) :: st) σ) : G pc vs (.int (nI b) :: .int (nI a) :: st) σ := tv_zishl hG hd (pk_shlN _ b (tv_s_l b hb) h) k
theorem tv_ishr (hG : tv_isG l cc n own R D tys ω E G) {a b : Nat} (hd : decode cc pc = .ok (.ishr, 1)) (hb : b < 32) (ha : a < 2147483648) (k : G (pc + 1) vs (.int (nI (a / 2 ^ b)) :: st) σ) : G pc vs (.int (nI b) :: .int (nI a) :: st) σ := tv_zishr hG hd (pk_shrN ha _ b (tv_s_l b hb)) k
theorem tv_i2b (hG : tv_isG l cc n own R D tys ω E G) {a : Nat} (hd : decode cc pc = .ok (.i2b, 1)) (ha : a < 128) (k : G (pc + 1) vs (.int (nI a) :: st) σ) : G pc vs (.int (nI a) :: st) σ := tv_zi2b hG hd (tv_byte a ha) k
theorem tv_icmp_eq (hG : tv_isG l cc n own R D tys ω E G) {a b : Nat} {off : Int} {tgt : Nat} (hd : decode cc pc = .ok (.if_icmp .eq off, 3)) (ht : (pc : Int) + off = (tgt : Int)) (ha : a < 2147483648) (hb : b < 2147483648) (kt : a = b → G tgt vs st σ) (kf : a ≠ b → G (pc + 3) vs st σ) : G pc vs (.int (nI b) :: .int (nI a) :: st) σ := tv_zicmp_eq hG hd ht (fun q => kt ((nI_eq ha hb).mp q)) (fun q => kf (fun q2 => q ((nI_eq ha hb).mpr q2)))
theorem tv_icmp_ne (hG : tv_isG l cc n own R D tys ω E G) {a b : Nat} {off : Int} {tgt : Nat} (hd : decode cc pc = .ok (.if_icmp .ne off, 3)) (ht : (pc : Int) + off = (tgt : Int)) (ha : a < 2147483648) (hb : b < 2147483648) (kt : a ≠ b → G tgt vs st σ) (kf : a = b → G (pc + 3) vs st σ) : G pc vs (.int (nI b) :: .int (nI a) :: st) σ := tv_zicmp_ne hG hd ht (fun q => kt (fun q2 => q ((nI_eq ha hb).mpr q2))) (fun q => kf ((nI_eq ha hb).mp q))
theorem tv_icmp_lt (hG : tv_isG l cc n own R D tys ω E G) {a b : Nat} {off : Int} {tgt : Nat} (hd : decode cc pc = .ok (.if_icmp .lt off, 3)) (ht : (pc : Int) + off = (tgt : Int)) (ha : a < 2147483648) (hb : b < 2147483648) (kt : a < b → G tgt vs st σ) (kf : b ≤ a → G (pc + 3) vs st σ) : G pc vs (.int (nI b) :: .int (nI a) :: st) σ := tv_zicmp_lt hG hd ht (fun q => kt ((nI_ltI ha hb).mp q)) (fun q => kf (Nat.not_lt.mp (fun q2 => q ((nI_ltI ha hb).mpr q2))))
theorem tv_icmp_ge (hG : tv_isG l cc n own R D tys ω E G) {a b : Nat} {off : Int} {tgt : Nat} (hd : decode cc pc = .ok (.if_icmp .ge off, 3)) (ht : (pc : Int) + off = (tgt : Int)) (ha : a < 2147483648) (hb : b < 2147483648) (kt : b ≤ a → G tgt vs st σ) (kf : a < b → G (pc + 3) vs st σ) : G pc vs (.int (nI b) :: .int (nI a) :: st) σ := tv_zicmp_ge hG hd ht (fun q => kt ((nI_leI hb ha).mp q)) (fun q => kf (Nat.not_le.mp (fun q2 => q ((nI_leI hb ha).mpr q2))))
theorem tv_icmp_gt (hG : tv_isG l cc n own R D tys ω E G) {a b : Nat} {off : Int} {tgt : Nat} (hd : decode cc pc = .ok (.if_icmp .gt off, 3)) (ht : (pc : Int) + off = (tgt : Int)) (ha : a < 2147483648) (hb : b < 2147483648) (kt : b < a → G tgt vs st σ) (kf : a ≤ b → G (pc + 3) vs st σ) : G pc vs (.int (nI b) :: .int (nI a) :: st) σ := tv_zicmp_gt hG hd ht (fun q => kt ((nI_ltI hb ha).mp q)) (fun q => kf (Nat.not_lt.mp (fun q2 => q ((nI_ltI hb ha).mpr q2))))
theorem tv_icmp_le (hG : tv_isG l cc n own R D tys ω E G) {a b : Nat} {off : Int} {tgt : Nat} (hd : decode cc pc = .ok (.if_icmp .le off, 3)) (ht : (pc : Int) + off = (tgt : Int)) (ha : a < 2147483648) (hb : b < 2147483648) (kt : a ≤ b → G tgt vs st σ) (kf : b < a → G (pc + 3) vs st σ) : G pc vs (.int (nI b) :: .int (nI a) :: st) σ := tv_zicmp_le hG hd ht (fun q => kt ((nI_leI ha hb).mp q)) (fun q => kf (Nat.not_le.mp (fun q2 => q ((nI_leI ha hb).mpr q2))))
theorem tv_if_eq (hG : tv_isG l cc n own R D tys ω E G) {a : Nat} {off : Int} {tgt : Nat} (hd : decode cc pc = .ok (.ifCond .eq off, 3)) (ht : (pc : Int) + off = (tgt : Int)) (ha : a < 2147483648) (kt : a = 0 → G tgt vs st σ) (kf : a ≠ 0 → G (pc + 3) vs st σ) : G pc vs (.int (nI a) :: st) σ := tv_zif_eq hG hd ht (fun q => kt ((tv_e0 ha).mp q)) (fun q => kf (fun q2 => q ((tv_e0 ha).mpr q2)))
theorem tv_if_ne (hG : tv_isG l cc n own R D tys ω E G) {a : Nat} {off : Int} {tgt : Nat} (hd : decode cc pc = .ok (.ifCond .ne off, 3)) (ht : (pc : Int) + off = (tgt : Int)) (ha : a < 2147483648) (kt : a ≠ 0 → G tgt vs st σ) (kf : a = 0 → G (pc + 3) vs st σ) : G pc vs (.int (nI a) :: st) σ := tv_zif_ne hG hd ht (fun q => kt (fun q2 => q ((tv_e0 ha).mpr q2))) (fun q => kf ((tv_e0 ha).mp q))
theorem tv_if_le (hG : tv_isG l cc n own R D tys ω E G) {a : Nat} {off : Int} {tgt : Nat} (hd : decode cc pc = .ok (.ifCond .le off, 3)) (ht : (pc : Int) + off = (tgt : Int)) (ha : a < 2147483648) (kt : a = 0 → G tgt vs st σ) (kf : 0 < a → G (pc + 3) vs st σ) : G pc vs (.int (nI a) :: st) σ := tv_zif_le hG hd ht (fun q => kt (Nat.eq_zero_of_not_pos (fun q2 => nI_nle q2 ha q))) (fun q => kf (Nat.pos_of_ne_zero (fun q2 => q (by rw [q2, nI_0]; decide))))
theorem tv_if_lt (hG : tv_isG l cc n own R D tys ω E G) {a : Nat} {off : Int} {tgt : Nat} (hd : decode cc pc = .ok (.ifCond .lt off, 3)) (ht : (pc : Int) + off = (tgt : Int)) (ha : a < 2147483648) (kf : G (pc + 3) vs st σ) : G pc vs (.int (nI a) :: st) σ := tv_zif_lt hG hd ht (fun q => absurd q (nI_pos ha)) (fun _ => kf)
theorem tv_if_ge (hG : tv_isG l cc n own R D tys ω E G) {a : Nat} {off : Int} {tgt : Nat} (hd : decode cc pc = .ok (.ifCond .ge off, 3)) (ht : (pc : Int) + off = (tgt : Int)) (ha : a < 2147483648) (kt : G tgt vs st σ) : G pc vs (.int (nI a) :: st) σ := tv_zif_ge hG hd ht (fun _ => kt) (fun q => absurd (nI_pos' ha) q)
end
end
section
set_option maxRecDepth 100000
/-- a contract with an int (or boolean) answer: from the memory σ, the answer and the new memory as post says -/
def tv_CI (l : Launch) (y : MethodName) (b : ByteArray) (n : Nat) (r : Option FieldType) (rm : Room) (D : va_G) (tys : List (ClassId × FieldType)) (ω : tv_M → va_W) (As : List Value) (σ : tv_M) (post : Int32 → tv_M → Prop) : Prop :=
  ∀ sz : Nat, Met l y (ws_ y b n r) rm (va_Pc As (fun U => U.heap.size = sz ∧ va_P D tv_cl (ω σ) U.heap ∧ va_K D tv_cl tys U ∧ va_D (fun _ => True) (ω σ))) (va_Qi post (fun τ t => va_P D tv_cl (ω τ) t.heap ∧ va_K D tv_cl tys t ∧ va_D (va_A (ω σ) sz) (ω τ)) (va_A (ω σ) sz)) 0 0 (va_A (ω σ) sz)
def tv_CV (l : Launch) (y : MethodName) (b : ByteArray) (n : Nat) (rm : Room) (D : va_G) (tys : List (ClassId × FieldType)) (ω : tv_M → va_W) (As : List Value) (σ : tv_M) (post : tv_M → Prop) : Prop :=
  ∀ sz : Nat, Met l y (ws_ y b n none) rm (va_Pc As (fun U => U.heap.size = sz ∧ va_P D tv_cl (ω σ) U.heap ∧ va_K D tv_cl tys U ∧ va_D (fun _ => True) (ω σ))) (va_Qv post (fun τ t => va_P D tv_cl (ω τ) t.heap ∧ va_K D tv_cl tys t ∧ va_D (va_A (ω σ) sz) (ω τ)) (va_A (ω σ) sz)) 0 0 (va_A (ω σ) sz)
/-- no more asked of the state than the code -/
def tv_E0 : State → (Nat → Prop) → Prop := fun _ _ => True
section
variable {l : Launch} {y : MethodName} {b : ByteArray} {n : Nat} {own : String} {rm : Room} {D : va_G} {tys : List (ClassId × FieldType)} {ω : tv_M → va_W} {As : List Value} {σ : tv_M}
theorem tv_inI {post : Int32 → tv_M → Prop} (hy : plainName y.cls = true) (hyc : y.cls = own) (hc : ∀ v ∈ As, v.category = 1) (hn : As.length ≤ n)
    (body : ∀ G : Nat → List Value → List Value → tv_M → Prop, tv_isG l b n own rm D tys ω tv_E0 G → (∀ (pc : Nat) (vs : List Value) (τ : tv_M) (r : Int32), decode b pc = .ok (.ireturn, 1) → post r τ → G pc vs [.int r] τ) → G 0 As [] σ) : tv_CI l y b n (some .int) rm D tys ω As σ post := by
  intro sz
  refine Met.ofW (cc := b) (maxL := n) (ret := (some .int)) hy rfl ?_
  intro p e s m args below meth c s₁ B hml hv
  obtain ⟨rfl, hsz, hP, hK, hD0⟩ := hv
  have hx := B.exec
  have hb := B.bytes
  have hr := B.returns
  have hts := atoms_spec (ws := ws_ y b n (some .int)) B.pre
  have hts : ∀ w ∈ lw_all, w.before _ s = true := fun w h => hts w (List.mem_cons_of_mem _ h)
  have hown : s.vm.findClass own = some m.cls := hyc ▸ findClass_of_methodNamed B.named
  have hlocks := B.notSynchronized
  subst hsz
  have hD := hD0.self (sz := s.heap.size)
  have hA : ∀ q, s.heap.size ≤ q → va_A (ω σ) s.heap.size q := fun q h => Or.inr h
  rw [lg_entry_eq]
  refine body _ ⟨p, e, s, m, _, below, meth, c, 0, 0, _, _, hx, hb, hml, hown, hts, hA, trivial, Nat.zero_le _, Nat.zero_le _, rfl⟩ ?_ s.heap [] _ ⟨hK, hP, hD, va_S.rf⟩ (tv_ls_in hc hn)
  intro pc vs τ r hd hp H locs ls hX hl
  exact W.iret (v := r) hx hb hr (fun t ht hW => ⟨⟨r, τ, rfl, hp, by rw [ht]; exact hX.2.1, va_K.moved hW.alike hX.1, hX.2.2.1⟩, hX.2.2.2.F ht⟩) hX.2.2.2.2.2 hd
theorem tv_inZ {post : Int32 → tv_M → Prop} (hy : plainName y.cls = true) (hyc : y.cls = own) (hc : ∀ v ∈ As, v.category = 1) (hn : As.length ≤ n)
    (body : ∀ G : Nat → List Value → List Value → tv_M → Prop, tv_isG l b n own rm D tys ω tv_E0 G → (∀ (pc : Nat) (vs : List Value) (τ : tv_M) (r : Int32), decode b pc = .ok (.ireturn, 1) → (r = 0 ∨ r = 1) → post r τ → G pc vs [.int r] τ) → G 0 As [] σ) : tv_CI l y b n (some .boolean) rm D tys ω As σ post := by
  intro sz
  refine Met.ofW (cc := b) (maxL := n) (ret := (some .boolean)) hy rfl ?_
  intro p e s m args below meth c s₁ B hml hv
  obtain ⟨rfl, hsz, hP, hK, hD0⟩ := hv
  have hx := B.exec
  have hb := B.bytes
  have hr := B.returns
  have hts := atoms_spec (ws := ws_ y b n (some .boolean)) B.pre
  have hts : ∀ w ∈ lw_all, w.before _ s = true := fun w h => hts w (List.mem_cons_of_mem _ h)
  have hown : s.vm.findClass own = some m.cls := hyc ▸ findClass_of_methodNamed B.named
  have hlocks := B.notSynchronized
  subst hsz
  have hD := hD0.self (sz := s.heap.size)
  have hA : ∀ q, s.heap.size ≤ q → va_A (ω σ) s.heap.size q := fun q h => Or.inr h
  rw [lg_entry_eq]
  refine body _ ⟨p, e, s, m, _, below, meth, c, 0, 0, _, _, hx, hb, hml, hown, hts, hA, trivial, Nat.zero_le _, Nat.zero_le _, rfl⟩ ?_ s.heap [] _ ⟨hK, hP, hD, va_S.rf⟩ (tv_ls_in hc hn)
  intro pc vs τ r hd h01 hp H locs ls hX hl
  exact W.zret (v := r) hx hb hr (by rcases h01 with h | h <;> (rw [h]; decide)) (fun t ht hW => ⟨⟨r, τ, rfl, hp, by rw [ht]; exact hX.2.1, va_K.moved hW.alike hX.1, hX.2.2.1⟩, hX.2.2.2.F ht⟩) hX.2.2.2.2.2 hd
theorem tv_inV {post : tv_M → Prop} (hy : plainName y.cls = true) (hyc : y.cls = own) (hc : ∀ v ∈ As, v.category = 1) (hn : As.length ≤ n)
    (body : ∀ G : Nat → List Value → List Value → tv_M → Prop, tv_isG l b n own rm D tys ω tv_E0 G → (∀ (pc : Nat) (vs : List Value) (τ : tv_M), decode b pc = .ok (.return_, 1) → post τ → G pc vs [] τ) → G 0 As [] σ) : tv_CV l y b n rm D tys ω As σ post := by
  intro sz
  refine Met.ofW (cc := b) (maxL := n) (ret := none) hy rfl ?_
  intro p e s m args below meth c s₁ B hml hv
  obtain ⟨rfl, hsz, hP, hK, hD0⟩ := hv
  have hx := B.exec
  have hb := B.bytes
  have hr := B.returns
  have hts := atoms_spec (ws := ws_ y b n none) B.pre
  have hts : ∀ w ∈ lw_all, w.before _ s = true := fun w h => hts w (List.mem_cons_of_mem _ h)
  have hown : s.vm.findClass own = some m.cls := hyc ▸ findClass_of_methodNamed B.named
  have hlocks := B.notSynchronized
  subst hsz
  have hD := hD0.self (sz := s.heap.size)
  have hA : ∀ q, s.heap.size ≤ q → va_A (ω σ) s.heap.size q := fun q h => Or.inr h
  rw [lg_entry_eq]
  refine body _ ⟨p, e, s, m, _, below, meth, c, 0, 0, _, _, hx, hb, hml, hown, hts, hA, trivial, Nat.zero_le _, Nat.zero_le _, rfl⟩ ?_ s.heap [] _ ⟨hK, hP, hD, va_S.rf⟩ (tv_ls_in hc hn)
  intro pc vs τ hd hp H locs ls hX hl
  exact W.vret hx hb hr (fun t ht hW => ⟨⟨τ, rfl, hp, by rw [ht]; exact hX.2.1, va_K.moved hW.alike hX.1, hX.2.2.1⟩, hX.2.2.2.F ht⟩) hX.2.2.2.2.2 hd
end
section
variable {l : Launch} {cc : ByteArray} {n : Nat} {own : String} {R : Room} {D : va_G} {tys : List (ClassId × FieldType)} {ω : tv_M → va_W} {E : State → (Nat → Prop) → Prop} {G : Nat → List Value → List Value → tv_M → Prop} {pc : Nat} {vs st stk As : List Value} {σ : tv_M}
  {y : MethodName} {b : ByteArray} {n1 : Nat} {r : Option FieldType} {rm : Room} {a idx : Nat} {C : String} {T : u_T} {N ci : Nat} {fs : List Value}
theorem tv_callI (hG : tv_isG l cc n own R D tys ω E G) {post : Int32 → tv_M → Prop} (M : tv_CI l y b n1 r rm D tys ω (.ref a :: As) σ post) (w1 : Cond.methodLink own idx y ∈ lw_all) (w2 : Cond.instanceMethod y ∈ lw_all) (w3 : Cond.selects C y y ∈ lw_all) (w4 : Cond.initialized C ∈ lw_all) (w5 : Cond.code y b n1 r ∈ lw_all) (hc : tv_cl[ci]? = some (C, T, N)) (he : (ω σ)[0]? = some (a, .inr (ci, fs))) (nA : Nat) (hy : y.cls = C ∧ y.cls ≠ "java/lang/invoke/MethodHandle" ∧ y.cls ≠ "java/lang/invoke/VarHandle" ∧ (parseMethodDescriptor y.desc).map (fun d => d.parameters.length) = some nA) (hrc : rm.cells = 0) (hrs : rm.slots = 0) (hR : rm.frames + 1 ≤ R.frames ∧ 8 + (n1 + 11) + rm.locals ≤ R.locals) (hn : As.length = nA) (hs : stk = As.reverse ++ .ref a :: st) (hw : (st.map fun v => v.category).sum ≤ 8) (hd : decode cc pc = .ok (.invokevirtual idx, 3)) (k : ∀ (z : Int32) (τ : tv_M), post z τ → G (pc + 3) vs (.int z :: st) τ) : G pc vs stk σ := by
  obtain ⟨p, e, s, m, args, below, meth, c, cells, slots, Q, A, hx, hb, hml, hown, hts, hA, hE, hc1, hc2, rfl⟩ := hG
  intro H locs ls hX hl
  subst hs
  obtain ⟨hK, hP, hD, hS⟩ := hX
  have hFc : ∀ q, va_A (ω σ) H.size q → A q := by
    intro q hq
    rcases hq with ⟨k1, e1, hk1⟩ | hq
    · exact hD.2 k1 (q, e1) hk1
    · exact hA q (Nat.le_trans hS.1 hq)
  refine va_calli (va_runV (As := As) (rest := st) ⟨hx, hb, hml, hown, hts⟩ (M H.size) (cwV nA hts (lw_V w1 w2 w3 w4 w5) rfl hrc hrs hy hR) ⟨(fun a U g mk q => by obtain ⟨q0, q1, qP, qK, qD⟩ := q; exact ⟨q0, q1, qP, va_K.moved (u := U) (U := U.calling g mk a) (Vm.Alike.refl U.vm) qK, qD⟩), va_recv hK hP (ci := ci) (q0 := 0) hc he, fun U hU hW => ⟨rfl, by rw [hU], by rw [hU]; exact hP, va_K.moved hW.alike hK, hD.weaken (fun _ _ _ _ => trivial)⟩⟩ rfl hn hl.1 rfl (lv_room hw) hd ⟨hc1, hc2⟩) hS (fun q _ h => hFc q h) hFc (fun z u t H1 locs1 ht hvm hw1 hB hz1 hk1 hS1 => ?_)
  obtain ⟨hP1, hK1, hD1⟩ := hB
  rw [ht] at hP1
  exact k z u hw1 H1 locs1 ls ⟨hK, hP1, hD1.weaken (fun _ _ _ h => hFc _ h), hS1⟩ hl
theorem tv_callSI (hG : tv_isG l cc n own R D tys ω E G) {post : Int32 → tv_M → Prop} (M : tv_CI l y b n1 r rm D tys ω As σ post) (w1 : Cond.methodLink own idx y ∈ lw_all) (w2 : Cond.static y ∈ lw_all) (w3 : Cond.initialized y.cls ∈ lw_all) (w5 : Cond.code y b n1 r ∈ lw_all) (nA : Nat) (hy : y.cls ≠ "java/lang/invoke/MethodHandle" ∧ y.cls ≠ "java/lang/invoke/VarHandle" ∧ (parseMethodDescriptor y.desc).map (fun d => d.parameters.length) = some nA) (hrc : rm.cells = 0) (hrs : rm.slots = 0) (hR : rm.frames + 1 ≤ R.frames ∧ 8 + (n1 + 11) + rm.locals ≤ R.locals) (hn : As.length = nA) (hs : stk = As.reverse ++ st) (hw : (st.map fun v => v.category).sum ≤ 8) (hd : decode cc pc = .ok (.invokestatic idx, 3)) (k : ∀ (z : Int32) (τ : tv_M), post z τ → G (pc + 3) vs (.int z :: st) τ) : G pc vs stk σ := by
  obtain ⟨p, e, s, m, args, below, meth, c, cells, slots, Q, A, hx, hb, hml, hown, hts, hA, hE, hc1, hc2, rfl⟩ := hG
  intro H locs ls hX hl
  subst hs
  obtain ⟨hK, hP, hD, hS⟩ := hX
  have hFc : ∀ q, va_A (ω σ) H.size q → A q := by
    intro q hq
    rcases hq with ⟨k1, e1, hk1⟩ | hq
    · exact hD.2 k1 (q, e1) hk1
    · exact hA q (Nat.le_trans hS.1 hq)
  refine va_calli (va_runS (As := As) (rest := st) ⟨hx, hb, hml, hown, hts⟩ (M H.size) (va_cwS nA hts (lw_S w1 w2 w3 w5) rfl hrc hrs hy hR) ⟨(fun a U g mk q => by obtain ⟨q0, q1, qP, qK, qD⟩ := q; exact ⟨q0, q1, qP, va_K.moved (u := U) (U := U.calling g mk a) (Vm.Alike.refl U.vm) qK, qD⟩), fun U hU hW => ⟨rfl, by rw [hU], by rw [hU]; exact hP, va_K.moved hW.alike hK, hD.weaken (fun _ _ _ _ => trivial)⟩⟩ rfl hn hl.1 rfl (lv_room hw) hd ⟨hc1, hc2⟩) hS (fun q _ h => hFc q h) hFc (fun z u t H1 locs1 ht hvm hw1 hB hz1 hk1 hS1 => ?_)
  obtain ⟨hP1, hK1, hD1⟩ := hB
  rw [ht] at hP1
  exact k z u hw1 H1 locs1 ls ⟨hK, hP1, hD1.weaken (fun _ _ _ h => hFc _ h), hS1⟩ hl
theorem tv_callV (hG : tv_isG l cc n own R D tys ω E G) {post : tv_M → Prop} (M : tv_CV l y b n1 rm D tys ω (.ref a :: As) σ post) (w1 : Cond.methodLink own idx y ∈ lw_all) (w2 : Cond.instanceMethod y ∈ lw_all) (w3 : Cond.selects C y y ∈ lw_all) (w4 : Cond.initialized C ∈ lw_all) (w5 : Cond.code y b n1 none ∈ lw_all) (hc : tv_cl[ci]? = some (C, T, N)) (he : (ω σ)[0]? = some (a, .inr (ci, fs))) (nA : Nat) (hy : y.cls = C ∧ y.cls ≠ "java/lang/invoke/MethodHandle" ∧ y.cls ≠ "java/lang/invoke/VarHandle" ∧ (parseMethodDescriptor y.desc).map (fun d => d.parameters.length) = some nA) (hrc : rm.cells = 0) (hrs : rm.slots = 0) (hR : rm.frames + 1 ≤ R.frames ∧ 8 + (n1 + 11) + rm.locals ≤ R.locals) (hn : As.length = nA) (hs : stk = As.reverse ++ .ref a :: st) (hw : (st.map fun v => v.category).sum ≤ 8) (hd : decode cc pc = .ok (.invokevirtual idx, 3)) (k : ∀ τ : tv_M, post τ → G (pc + 3) vs st τ) : G pc vs stk σ := by
  obtain ⟨p, e, s, m, args, below, meth, c, cells, slots, Q, A, hx, hb, hml, hown, hts, hA, hE, hc1, hc2, rfl⟩ := hG
  intro H locs ls hX hl
  subst hs
  obtain ⟨hK, hP, hD, hS⟩ := hX
  have hFc : ∀ q, va_A (ω σ) H.size q → A q := by
    intro q hq
    rcases hq with ⟨k1, e1, hk1⟩ | hq
    · exact hD.2 k1 (q, e1) hk1
    · exact hA q (Nat.le_trans hS.1 hq)
  refine va_callv (va_runV (As := As) (rest := st) ⟨hx, hb, hml, hown, hts⟩ (M H.size) (cwV nA hts (lw_V w1 w2 w3 w4 w5) rfl hrc hrs hy hR) ⟨(fun a U g mk q => by obtain ⟨q0, q1, qP, qK, qD⟩ := q; exact ⟨q0, q1, qP, va_K.moved (u := U) (U := U.calling g mk a) (Vm.Alike.refl U.vm) qK, qD⟩), va_recv hK hP (ci := ci) (q0 := 0) hc he, fun U hU hW => ⟨rfl, by rw [hU], by rw [hU]; exact hP, va_K.moved hW.alike hK, hD.weaken (fun _ _ _ _ => trivial)⟩⟩ rfl hn hl.1 rfl (lv_room hw) hd ⟨hc1, hc2⟩) hS (fun q _ h => hFc q h) hFc (fun u t H1 locs1 ht hvm hw1 hB hz1 hk1 hS1 => ?_)
  obtain ⟨hP1, hK1, hD1⟩ := hB
  rw [ht] at hP1
  exact k u hw1 H1 locs1 ls ⟨hK, hP1, hD1.weaken (fun _ _ _ h => hFc _ h), hS1⟩ hl
theorem tv_callSV (hG : tv_isG l cc n own R D tys ω E G) {post : tv_M → Prop} (M : tv_CV l y b n1 rm D tys ω As σ post) (w1 : Cond.methodLink own idx y ∈ lw_all) (w2 : Cond.static y ∈ lw_all) (w3 : Cond.initialized y.cls ∈ lw_all) (w5 : Cond.code y b n1 none ∈ lw_all) (nA : Nat) (hy : y.cls ≠ "java/lang/invoke/MethodHandle" ∧ y.cls ≠ "java/lang/invoke/VarHandle" ∧ (parseMethodDescriptor y.desc).map (fun d => d.parameters.length) = some nA) (hrc : rm.cells = 0) (hrs : rm.slots = 0) (hR : rm.frames + 1 ≤ R.frames ∧ 8 + (n1 + 11) + rm.locals ≤ R.locals) (hn : As.length = nA) (hs : stk = As.reverse ++ st) (hw : (st.map fun v => v.category).sum ≤ 8) (hd : decode cc pc = .ok (.invokestatic idx, 3)) (k : ∀ τ : tv_M, post τ → G (pc + 3) vs st τ) : G pc vs stk σ := by
  obtain ⟨p, e, s, m, args, below, meth, c, cells, slots, Q, A, hx, hb, hml, hown, hts, hA, hE, hc1, hc2, rfl⟩ := hG
  intro H locs ls hX hl
  subst hs
  obtain ⟨hK, hP, hD, hS⟩ := hX
  have hFc : ∀ q, va_A (ω σ) H.size q → A q := by
    intro q hq
    rcases hq with ⟨k1, e1, hk1⟩ | hq
    · exact hD.2 k1 (q, e1) hk1
    · exact hA q (Nat.le_trans hS.1 hq)
  refine va_callv (va_runS (As := As) (rest := st) ⟨hx, hb, hml, hown, hts⟩ (M H.size) (va_cwS nA hts (lw_S w1 w2 w3 w5) rfl hrc hrs hy hR) ⟨(fun a U g mk q => by obtain ⟨q0, q1, qP, qK, qD⟩ := q; exact ⟨q0, q1, qP, va_K.moved (u := U) (U := U.calling g mk a) (Vm.Alike.refl U.vm) qK, qD⟩), fun U hU hW => ⟨rfl, by rw [hU], by rw [hU]; exact hP, va_K.moved hW.alike hK, hD.weaken (fun _ _ _ _ => trivial)⟩⟩ rfl hn hl.1 rfl (lv_room hw) hd ⟨hc1, hc2⟩) hS (fun q _ h => hFc q h) hFc (fun u t H1 locs1 ht hvm hw1 hB hz1 hk1 hS1 => ?_)
  obtain ⟨hP1, hK1, hD1⟩ := hB
  rw [ht] at hP1
  exact k u hw1 H1 locs1 ls ⟨hK, hP1, hD1.weaken (fun _ _ _ h => hFc _ h), hS1⟩ hl
theorem tv_callxI (hG : tv_isG l cc n own R D tys ω E G) {rv : Int32} {ρ : tv_M} (M : tv_CI l y b n1 r rm D tys ω (.ref a :: As) σ (fun z τ => z = rv ∧ τ = ρ)) (w1 : Cond.methodLink own idx y ∈ lw_all) (w2 : Cond.instanceMethod y ∈ lw_all) (w3 : Cond.selects C y y ∈ lw_all) (w4 : Cond.initialized C ∈ lw_all) (w5 : Cond.code y b n1 r ∈ lw_all) (hc : tv_cl[ci]? = some (C, T, N)) (he : (ω σ)[0]? = some (a, .inr (ci, fs))) (nA : Nat) (hy : y.cls = C ∧ y.cls ≠ "java/lang/invoke/MethodHandle" ∧ y.cls ≠ "java/lang/invoke/VarHandle" ∧ (parseMethodDescriptor y.desc).map (fun d => d.parameters.length) = some nA) (hrc : rm.cells = 0) (hrs : rm.slots = 0) (hR : rm.frames + 1 ≤ R.frames ∧ 8 + (n1 + 11) + rm.locals ≤ R.locals) (hn : As.length = nA) (hs : stk = As.reverse ++ .ref a :: st) (hw : (st.map fun v => v.category).sum ≤ 8) (hd : decode cc pc = .ok (.invokevirtual idx, 3)) (k : G (pc + 3) vs (.int rv :: st) ρ) : G pc vs stk σ :=
  tv_callI hG M w1 w2 w3 w4 w5 hc he nA hy hrc hrs hR hn hs hw hd (fun z τ hp => by obtain ⟨e1, e2⟩ := hp; rw [e1, e2]; exact k)
theorem tv_callSxI (hG : tv_isG l cc n own R D tys ω E G) {rv : Int32} {ρ : tv_M} (M : tv_CI l y b n1 r rm D tys ω As σ (fun z τ => z = rv ∧ τ = ρ)) (w1 : Cond.methodLink own idx y ∈ lw_all) (w2 : Cond.static y ∈ lw_all) (w3 : Cond.initialized y.cls ∈ lw_all) (w5 : Cond.code y b n1 r ∈ lw_all) (nA : Nat) (hy : y.cls ≠ "java/lang/invoke/MethodHandle" ∧ y.cls ≠ "java/lang/invoke/VarHandle" ∧ (parseMethodDescriptor y.desc).map (fun d => d.parameters.length) = some nA) (hrc : rm.cells = 0) (hrs : rm.slots = 0) (hR : rm.frames + 1 ≤ R.frames ∧ 8 + (n1 + 11) + rm.locals ≤ R.locals) (hn : As.length = nA) (hs : stk = As.reverse ++ st) (hw : (st.map fun v => v.category).sum ≤ 8) (hd : decode cc pc = .ok (.invokestatic idx, 3)) (k : G (pc + 3) vs (.int rv :: st) ρ) : G pc vs stk σ :=
  tv_callSI hG M w1 w2 w3 w5 nA hy hrc hrs hR hn hs hw hd (fun z τ hp => by obtain ⟨e1, e2⟩ := hp; rw [e1, e2]; exact k)
theorem tv_callxV (hG : tv_isG l cc n own R D tys ω E G) {ρ : tv_M} (M : tv_CV l y b n1 rm D tys ω (.ref a :: As) σ (fun τ => τ = ρ)) (w1 : Cond.methodLink own idx y ∈ lw_all) (w2 : Cond.instanceMethod y ∈ lw_all) (w3 : Cond.selects C y y ∈ lw_all) (w4 : Cond.initialized C ∈ lw_all) (w5 : Cond.code y b n1 none ∈ lw_all) (hc : tv_cl[ci]? = some (C, T, N)) (he : (ω σ)[0]? = some (a, .inr (ci, fs))) (nA : Nat) (hy : y.cls = C ∧ y.cls ≠ "java/lang/invoke/MethodHandle" ∧ y.cls ≠ "java/lang/invoke/VarHandle" ∧ (parseMethodDescriptor y.desc).map (fun d => d.parameters.length) = some nA) (hrc : rm.cells = 0) (hrs : rm.slots = 0) (hR : rm.frames + 1 ≤ R.frames ∧ 8 + (n1 + 11) + rm.locals ≤ R.locals) (hn : As.length = nA) (hs : stk = As.reverse ++ .ref a :: st) (hw : (st.map fun v => v.category).sum ≤ 8) (hd : decode cc pc = .ok (.invokevirtual idx, 3)) (k : G (pc + 3) vs st ρ) : G pc vs stk σ :=
  tv_callV hG M w1 w2 w3 w4 w5 hc he nA hy hrc hrs hR hn hs hw hd (fun τ hp => by rw [hp]; exact k)
theorem tv_callSxV (hG : tv_isG l cc n own R D tys ω E G) {ρ : tv_M} (M : tv_CV l y b n1 rm D tys ω As σ (fun τ => τ = ρ)) (w1 : Cond.methodLink own idx y ∈ lw_all) (w2 : Cond.static y ∈ lw_all) (w3 : Cond.initialized y.cls ∈ lw_all) (w5 : Cond.code y b n1 none ∈ lw_all) (nA : Nat) (hy : y.cls ≠ "java/lang/invoke/MethodHandle" ∧ y.cls ≠ "java/lang/invoke/VarHandle" ∧ (parseMethodDescriptor y.desc).map (fun d => d.parameters.length) = some nA) (hrc : rm.cells = 0) (hrs : rm.slots = 0) (hR : rm.frames + 1 ≤ R.frames ∧ 8 + (n1 + 11) + rm.locals ≤ R.locals) (hn : As.length = nA) (hs : stk = As.reverse ++ st) (hw : (st.map fun v => v.category).sum ≤ 8) (hd : decode cc pc = .ok (.invokestatic idx, 3)) (k : G (pc + 3) vs st ρ) : G pc vs stk σ :=
  tv_callSV hG M w1 w2 w3 w5 nA hy hrc hrs hR hn hs hw hd (fun τ hp => by rw [hp]; exact k)
end
section
variable {l : Launch} {cc : ByteArray} {n : Nat} {R : Room} {D : va_G} {h : Nat → Nat} {d : Nat → ClassId} {E : State → (Nat → Prop) → Prop} {G : Nat → List Value → List Value → tv_M → Prop} {pc : Nat} {vs st : List Value} {σ : tv_M}
theorem tv_gX_0 (hG : tv_isG l cc n RX1 R D (tv_tX d) (tv_wX h d) E G) {v : Nat} (hv : σ 0 0 = v) (hd : decode cc pc = .ok (.getfield 52, 3)) (k : G (pc + 3) vs (.int (nI v) :: st) σ) : G pc vs (.ref (h 0) :: st) σ := by
  obtain ⟨p, e, s, m, args, below, meth, c, cells, slots, Q, A, hx, hb, hml, hown, hts, hA, hE, hc1, hc2, rfl⟩ := hG
  intro H locs ls hX hl
  subst hv
  exact va_get (D := D) (ci := 0) (C := RX1) (T := TX1) (N := 20) hx hb hts in_X1 hown hX.1 hX.2.1 0 rfl rfl 0 (by decide) (hts _ q32) (fun _ h9 => h9) rfl hd (k H locs ls hX hl)
theorem tv_pX_0 (hG : tv_isG l cc n RX1 R D (tv_tX d) (tv_wX h d) E G) {v : Nat} (hd : decode cc pc = .ok (.putfield 52, 3)) (k : G (pc + 3) vs st (tv_st σ 0 0 v)) : G pc vs (.int (nI v) :: .ref (h 0) :: st) σ := by
  obtain ⟨p, e, s, m, args, below, meth, c, cells, slots, Q, A, hx, hb, hml, hown, hts, hA, hE, hc1, hc2, rfl⟩ := hG
  intro H locs ls hX hl
  obtain ⟨hK, hP, hD, hS⟩ := hX
  refine va_put (D := D) (ci := 0) (v := .int (nI v)) (ty := .int) (C := RX1) (T := TX1) (N := 20) hx hb hts in_X1 tyX1 tyX1_ok nmX1 hown hK hP hD hS 0 rfl rfl 0 (by decide) (hts _ q32) (fun _ h9 => h9) rfl (by decide +kernel) rfl rfl (Nat.le_of_ble_eq_true rfl) hd (fun H1 locs1 hP1 hD1 hS1 => ?_)
  exact k H1 locs1 ls ⟨hK, hP1, hD1, hS1⟩ hl
theorem tv_gX_1 (hG : tv_isG l cc n RX1 R D (tv_tX d) (tv_wX h d) E G) (hd : decode cc pc = .ok (.getfield 7, 3)) (k : G (pc + 3) vs (.ref (h 1) :: st) σ) : G pc vs (.ref (h 0) :: st) σ := by
  obtain ⟨p, e, s, m, args, below, meth, c, cells, slots, Q, A, hx, hb, hml, hown, hts, hA, hE, hc1, hc2, rfl⟩ := hG
  intro H locs ls hX hl
  exact va_get (D := D) (ci := 0) (C := RX1) (T := TX1) (N := 20) hx hb hts in_X1 hown hX.1 hX.2.1 0 rfl rfl 1 (by decide) (hts _ q33) (fun _ h9 => h9) rfl hd (k H locs ls hX hl)
theorem tv_gX_2 (hG : tv_isG l cc n RX1 R D (tv_tX d) (tv_wX h d) E G) (hd : decode cc pc = .ok (.getfield 13, 3)) (k : G (pc + 3) vs (.ref (h 2) :: st) σ) : G pc vs (.ref (h 0) :: st) σ := by
  obtain ⟨p, e, s, m, args, below, meth, c, cells, slots, Q, A, hx, hb, hml, hown, hts, hA, hE, hc1, hc2, rfl⟩ := hG
  intro H locs ls hX hl
  exact va_get (D := D) (ci := 0) (C := RX1) (T := TX1) (N := 20) hx hb hts in_X1 hown hX.1 hX.2.1 0 rfl rfl 2 (by decide) (hts _ q34) (fun _ h9 => h9) rfl hd (k H locs ls hX hl)
theorem tv_gX_3 (hG : tv_isG l cc n RX1 R D (tv_tX d) (tv_wX h d) E G) (hd : decode cc pc = .ok (.getfield 16, 3)) (k : G (pc + 3) vs (.ref (h 3) :: st) σ) : G pc vs (.ref (h 0) :: st) σ := by
  obtain ⟨p, e, s, m, args, below, meth, c, cells, slots, Q, A, hx, hb, hml, hown, hts, hA, hE, hc1, hc2, rfl⟩ := hG
  intro H locs ls hX hl
  exact va_get (D := D) (ci := 0) (C := RX1) (T := TX1) (N := 20) hx hb hts in_X1 hown hX.1 hX.2.1 0 rfl rfl 3 (by decide) (hts _ q35) (fun _ h9 => h9) rfl hd (k H locs ls hX hl)
theorem tv_gX_4 (hG : tv_isG l cc n RX1 R D (tv_tX d) (tv_wX h d) E G) (hd : decode cc pc = .ok (.getfield 19, 3)) (k : G (pc + 3) vs (.ref (h 4) :: st) σ) : G pc vs (.ref (h 0) :: st) σ := by
  obtain ⟨p, e, s, m, args, below, meth, c, cells, slots, Q, A, hx, hb, hml, hown, hts, hA, hE, hc1, hc2, rfl⟩ := hG
  intro H locs ls hX hl
  exact va_get (D := D) (ci := 0) (C := RX1) (T := TX1) (N := 20) hx hb hts in_X1 hown hX.1 hX.2.1 0 rfl rfl 4 (by decide) (hts _ q36) (fun _ h9 => h9) rfl hd (k H locs ls hX hl)
theorem tv_gX_5 (hG : tv_isG l cc n RX1 R D (tv_tX d) (tv_wX h d) E G) (hd : decode cc pc = .ok (.getfield 22, 3)) (k : G (pc + 3) vs (.ref (h 5) :: st) σ) : G pc vs (.ref (h 0) :: st) σ := by
  obtain ⟨p, e, s, m, args, below, meth, c, cells, slots, Q, A, hx, hb, hml, hown, hts, hA, hE, hc1, hc2, rfl⟩ := hG
  intro H locs ls hX hl
  exact va_get (D := D) (ci := 0) (C := RX1) (T := TX1) (N := 20) hx hb hts in_X1 hown hX.1 hX.2.1 0 rfl rfl 5 (by decide) (hts _ q37) (fun _ h9 => h9) rfl hd (k H locs ls hX hl)
theorem tv_gX_6 (hG : tv_isG l cc n RX1 R D (tv_tX d) (tv_wX h d) E G) {v : Nat} (hv : σ 6 0 = v) (hd : decode cc pc = .ok (.getfield 67, 3)) (k : G (pc + 3) vs (.int (nI v) :: st) σ) : G pc vs (.ref (h 0) :: st) σ := by
  obtain ⟨p, e, s, m, args, below, meth, c, cells, slots, Q, A, hx, hb, hml, hown, hts, hA, hE, hc1, hc2, rfl⟩ := hG
  intro H locs ls hX hl
  subst hv
  exact va_get (D := D) (ci := 0) (C := RX1) (T := TX1) (N := 20) hx hb hts in_X1 hown hX.1 hX.2.1 0 rfl rfl 6 (by decide) (hts _ q38) (fun _ h9 => h9) rfl hd (k H locs ls hX hl)
theorem tv_pX_6 (hG : tv_isG l cc n RX1 R D (tv_tX d) (tv_wX h d) E G) {v : Nat} (hd : decode cc pc = .ok (.putfield 67, 3)) (k : G (pc + 3) vs st (tv_st σ 6 0 v)) : G pc vs (.int (nI v) :: .ref (h 0) :: st) σ := by
  obtain ⟨p, e, s, m, args, below, meth, c, cells, slots, Q, A, hx, hb, hml, hown, hts, hA, hE, hc1, hc2, rfl⟩ := hG
  intro H locs ls hX hl
  obtain ⟨hK, hP, hD, hS⟩ := hX
  refine va_put (D := D) (ci := 0) (v := .int (nI v)) (ty := .int) (C := RX1) (T := TX1) (N := 20) hx hb hts in_X1 tyX1 tyX1_ok nmX1 hown hK hP hD hS 0 rfl rfl 6 (by decide) (hts _ q38) (fun _ h9 => h9) rfl (by decide +kernel) rfl rfl (Nat.le_of_ble_eq_true rfl) hd (fun H1 locs1 hP1 hD1 hS1 => ?_)
  exact k H1 locs1 ls ⟨hK, hP1, hD1, hS1⟩ hl
theorem tv_gX_7 (hG : tv_isG l cc n RX1 R D (tv_tX d) (tv_wX h d) E G) (hd : decode cc pc = .ok (.getfield 25, 3)) (k : G (pc + 3) vs (.ref (h 7) :: st) σ) : G pc vs (.ref (h 0) :: st) σ := by
  obtain ⟨p, e, s, m, args, below, meth, c, cells, slots, Q, A, hx, hb, hml, hown, hts, hA, hE, hc1, hc2, rfl⟩ := hG
  intro H locs ls hX hl
  exact va_get (D := D) (ci := 0) (C := RX1) (T := TX1) (N := 20) hx hb hts in_X1 hown hX.1 hX.2.1 0 rfl rfl 7 (by decide) (hts _ q39) (fun _ h9 => h9) rfl hd (k H locs ls hX hl)
theorem tv_gX_8 (hG : tv_isG l cc n RX1 R D (tv_tX d) (tv_wX h d) E G) (hd : decode cc pc = .ok (.getfield 28, 3)) (k : G (pc + 3) vs (.ref (h 8) :: st) σ) : G pc vs (.ref (h 0) :: st) σ := by
  obtain ⟨p, e, s, m, args, below, meth, c, cells, slots, Q, A, hx, hb, hml, hown, hts, hA, hE, hc1, hc2, rfl⟩ := hG
  intro H locs ls hX hl
  exact va_get (D := D) (ci := 0) (C := RX1) (T := TX1) (N := 20) hx hb hts in_X1 hown hX.1 hX.2.1 0 rfl rfl 8 (by decide) (hts _ q40) (fun _ h9 => h9) rfl hd (k H locs ls hX hl)
theorem tv_gX_9 (hG : tv_isG l cc n RX1 R D (tv_tX d) (tv_wX h d) E G) {v : Nat} (hv : σ 9 0 = v) (hd : decode cc pc = .ok (.getfield 88, 3)) (k : G (pc + 3) vs (.int (nI v) :: st) σ) : G pc vs (.ref (h 0) :: st) σ := by
  obtain ⟨p, e, s, m, args, below, meth, c, cells, slots, Q, A, hx, hb, hml, hown, hts, hA, hE, hc1, hc2, rfl⟩ := hG
  intro H locs ls hX hl
  subst hv
  exact va_get (D := D) (ci := 0) (C := RX1) (T := TX1) (N := 20) hx hb hts in_X1 hown hX.1 hX.2.1 0 rfl rfl 9 (by decide) (hts _ q41) (fun _ h9 => h9) rfl hd (k H locs ls hX hl)
theorem tv_pX_9 (hG : tv_isG l cc n RX1 R D (tv_tX d) (tv_wX h d) E G) {v : Nat} (hd : decode cc pc = .ok (.putfield 88, 3)) (k : G (pc + 3) vs st (tv_st σ 9 0 v)) : G pc vs (.int (nI v) :: .ref (h 0) :: st) σ := by
  obtain ⟨p, e, s, m, args, below, meth, c, cells, slots, Q, A, hx, hb, hml, hown, hts, hA, hE, hc1, hc2, rfl⟩ := hG
  intro H locs ls hX hl
  obtain ⟨hK, hP, hD, hS⟩ := hX
  refine va_put (D := D) (ci := 0) (v := .int (nI v)) (ty := .int) (C := RX1) (T := TX1) (N := 20) hx hb hts in_X1 tyX1 tyX1_ok nmX1 hown hK hP hD hS 0 rfl rfl 9 (by decide) (hts _ q41) (fun _ h9 => h9) rfl (by decide +kernel) rfl rfl (Nat.le_of_ble_eq_true rfl) hd (fun H1 locs1 hP1 hD1 hS1 => ?_)
  exact k H1 locs1 ls ⟨hK, hP1, hD1, hS1⟩ hl
theorem tv_gX_10 (hG : tv_isG l cc n RX1 R D (tv_tX d) (tv_wX h d) E G) {v : Nat} (hv : σ 10 0 = v) (hd : decode cc pc = .ok (.getfield 91, 3)) (k : G (pc + 3) vs (.int (nI v) :: st) σ) : G pc vs (.ref (h 0) :: st) σ := by
  obtain ⟨p, e, s, m, args, below, meth, c, cells, slots, Q, A, hx, hb, hml, hown, hts, hA, hE, hc1, hc2, rfl⟩ := hG
  intro H locs ls hX hl
  subst hv
  exact va_get (D := D) (ci := 0) (C := RX1) (T := TX1) (N := 20) hx hb hts in_X1 hown hX.1 hX.2.1 0 rfl rfl 10 (by decide) (hts _ q42) (fun _ h9 => h9) rfl hd (k H locs ls hX hl)
theorem tv_pX_10 (hG : tv_isG l cc n RX1 R D (tv_tX d) (tv_wX h d) E G) {v : Nat} (hd : decode cc pc = .ok (.putfield 91, 3)) (k : G (pc + 3) vs st (tv_st σ 10 0 v)) : G pc vs (.int (nI v) :: .ref (h 0) :: st) σ := by
  obtain ⟨p, e, s, m, args, below, meth, c, cells, slots, Q, A, hx, hb, hml, hown, hts, hA, hE, hc1, hc2, rfl⟩ := hG
  intro H locs ls hX hl
  obtain ⟨hK, hP, hD, hS⟩ := hX
  refine va_put (D := D) (ci := 0) (v := .int (nI v)) (ty := .int) (C := RX1) (T := TX1) (N := 20) hx hb hts in_X1 tyX1 tyX1_ok nmX1 hown hK hP hD hS 0 rfl rfl 10 (by decide) (hts _ q42) (fun _ h9 => h9) rfl (by decide +kernel) rfl rfl (Nat.le_of_ble_eq_true rfl) hd (fun H1 locs1 hP1 hD1 hS1 => ?_)
  exact k H1 locs1 ls ⟨hK, hP1, hD1, hS1⟩ hl
theorem tv_gX_11 (hG : tv_isG l cc n RX1 R D (tv_tX d) (tv_wX h d) E G) (hd : decode cc pc = .ok (.getfield 31, 3)) (k : G (pc + 3) vs (.ref (h 11) :: st) σ) : G pc vs (.ref (h 0) :: st) σ := by
  obtain ⟨p, e, s, m, args, below, meth, c, cells, slots, Q, A, hx, hb, hml, hown, hts, hA, hE, hc1, hc2, rfl⟩ := hG
  intro H locs ls hX hl
  exact va_get (D := D) (ci := 0) (C := RX1) (T := TX1) (N := 20) hx hb hts in_X1 hown hX.1 hX.2.1 0 rfl rfl 11 (by decide) (hts _ q43) (fun _ h9 => h9) rfl hd (k H locs ls hX hl)
theorem tv_gX_12 (hG : tv_isG l cc n RX1 R D (tv_tX d) (tv_wX h d) E G) (hd : decode cc pc = .ok (.getfield 34, 3)) (k : G (pc + 3) vs (.ref (h 12) :: st) σ) : G pc vs (.ref (h 0) :: st) σ := by
  obtain ⟨p, e, s, m, args, below, meth, c, cells, slots, Q, A, hx, hb, hml, hown, hts, hA, hE, hc1, hc2, rfl⟩ := hG
  intro H locs ls hX hl
  exact va_get (D := D) (ci := 0) (C := RX1) (T := TX1) (N := 20) hx hb hts in_X1 hown hX.1 hX.2.1 0 rfl rfl 12 (by decide) (hts _ q44) (fun _ h9 => h9) rfl hd (k H locs ls hX hl)
theorem tv_gX_13 (hG : tv_isG l cc n RX1 R D (tv_tX d) (tv_wX h d) E G) (hd : decode cc pc = .ok (.getfield 37, 3)) (k : G (pc + 3) vs (.ref (h 13) :: st) σ) : G pc vs (.ref (h 0) :: st) σ := by
  obtain ⟨p, e, s, m, args, below, meth, c, cells, slots, Q, A, hx, hb, hml, hown, hts, hA, hE, hc1, hc2, rfl⟩ := hG
  intro H locs ls hX hl
  exact va_get (D := D) (ci := 0) (C := RX1) (T := TX1) (N := 20) hx hb hts in_X1 hown hX.1 hX.2.1 0 rfl rfl 13 (by decide) (hts _ q45) (fun _ h9 => h9) rfl hd (k H locs ls hX hl)
theorem tv_gX_14 (hG : tv_isG l cc n RX1 R D (tv_tX d) (tv_wX h d) E G) (hd : decode cc pc = .ok (.getfield 40, 3)) (k : G (pc + 3) vs (.ref (h 14) :: st) σ) : G pc vs (.ref (h 0) :: st) σ := by
  obtain ⟨p, e, s, m, args, below, meth, c, cells, slots, Q, A, hx, hb, hml, hown, hts, hA, hE, hc1, hc2, rfl⟩ := hG
  intro H locs ls hX hl
  exact va_get (D := D) (ci := 0) (C := RX1) (T := TX1) (N := 20) hx hb hts in_X1 hown hX.1 hX.2.1 0 rfl rfl 14 (by decide) (hts _ q46) (fun _ h9 => h9) rfl hd (k H locs ls hX hl)
theorem tv_gX_15 (hG : tv_isG l cc n RX1 R D (tv_tX d) (tv_wX h d) E G) (hd : decode cc pc = .ok (.getfield 43, 3)) (k : G (pc + 3) vs (.ref (h 15) :: st) σ) : G pc vs (.ref (h 0) :: st) σ := by
  obtain ⟨p, e, s, m, args, below, meth, c, cells, slots, Q, A, hx, hb, hml, hown, hts, hA, hE, hc1, hc2, rfl⟩ := hG
  intro H locs ls hX hl
  exact va_get (D := D) (ci := 0) (C := RX1) (T := TX1) (N := 20) hx hb hts in_X1 hown hX.1 hX.2.1 0 rfl rfl 15 (by decide) (hts _ q47) (fun _ h9 => h9) rfl hd (k H locs ls hX hl)
theorem tv_gX_16 (hG : tv_isG l cc n RX1 R D (tv_tX d) (tv_wX h d) E G) {v : Nat} (hv : σ 16 0 = v) (hd : decode cc pc = .ok (.getfield 94, 3)) (k : G (pc + 3) vs (.int (nI v) :: st) σ) : G pc vs (.ref (h 0) :: st) σ := by
  obtain ⟨p, e, s, m, args, below, meth, c, cells, slots, Q, A, hx, hb, hml, hown, hts, hA, hE, hc1, hc2, rfl⟩ := hG
  intro H locs ls hX hl
  subst hv
  exact va_get (D := D) (ci := 0) (C := RX1) (T := TX1) (N := 20) hx hb hts in_X1 hown hX.1 hX.2.1 0 rfl rfl 16 (by decide) (hts _ q48) (fun _ h9 => h9) rfl hd (k H locs ls hX hl)
theorem tv_pX_16 (hG : tv_isG l cc n RX1 R D (tv_tX d) (tv_wX h d) E G) {v : Nat} (hd : decode cc pc = .ok (.putfield 94, 3)) (k : G (pc + 3) vs st (tv_st σ 16 0 v)) : G pc vs (.int (nI v) :: .ref (h 0) :: st) σ := by
  obtain ⟨p, e, s, m, args, below, meth, c, cells, slots, Q, A, hx, hb, hml, hown, hts, hA, hE, hc1, hc2, rfl⟩ := hG
  intro H locs ls hX hl
  obtain ⟨hK, hP, hD, hS⟩ := hX
  refine va_put (D := D) (ci := 0) (v := .int (nI v)) (ty := .int) (C := RX1) (T := TX1) (N := 20) hx hb hts in_X1 tyX1 tyX1_ok nmX1 hown hK hP hD hS 0 rfl rfl 16 (by decide) (hts _ q48) (fun _ h9 => h9) rfl (by decide +kernel) rfl rfl (Nat.le_of_ble_eq_true rfl) hd (fun H1 locs1 hP1 hD1 hS1 => ?_)
  exact k H1 locs1 ls ⟨hK, hP1, hD1, hS1⟩ hl
theorem tv_gX_17 (hG : tv_isG l cc n RX1 R D (tv_tX d) (tv_wX h d) E G) {v : Nat} (hv : σ 17 0 = v) (hd : decode cc pc = .ok (.getfield 101, 3)) (k : G (pc + 3) vs (.int (nI v) :: st) σ) : G pc vs (.ref (h 0) :: st) σ := by
  obtain ⟨p, e, s, m, args, below, meth, c, cells, slots, Q, A, hx, hb, hml, hown, hts, hA, hE, hc1, hc2, rfl⟩ := hG
  intro H locs ls hX hl
  subst hv
  exact va_get (D := D) (ci := 0) (C := RX1) (T := TX1) (N := 20) hx hb hts in_X1 hown hX.1 hX.2.1 0 rfl rfl 17 (by decide) (hts _ q49) (fun _ h9 => h9) rfl hd (k H locs ls hX hl)
theorem tv_pX_17 (hG : tv_isG l cc n RX1 R D (tv_tX d) (tv_wX h d) E G) {v : Nat} (hd : decode cc pc = .ok (.putfield 101, 3)) (k : G (pc + 3) vs st (tv_st σ 17 0 v)) : G pc vs (.int (nI v) :: .ref (h 0) :: st) σ := by
  obtain ⟨p, e, s, m, args, below, meth, c, cells, slots, Q, A, hx, hb, hml, hown, hts, hA, hE, hc1, hc2, rfl⟩ := hG
  intro H locs ls hX hl
  obtain ⟨hK, hP, hD, hS⟩ := hX
  refine va_put (D := D) (ci := 0) (v := .int (nI v)) (ty := .int) (C := RX1) (T := TX1) (N := 20) hx hb hts in_X1 tyX1 tyX1_ok nmX1 hown hK hP hD hS 0 rfl rfl 17 (by decide) (hts _ q49) (fun _ h9 => h9) rfl (by decide +kernel) rfl rfl (Nat.le_of_ble_eq_true rfl) hd (fun H1 locs1 hP1 hD1 hS1 => ?_)
  exact k H1 locs1 ls ⟨hK, hP1, hD1, hS1⟩ hl
theorem tv_gX_18 (hG : tv_isG l cc n RX1 R D (tv_tX d) (tv_wX h d) E G) (hd : decode cc pc = .ok (.getfield 46, 3)) (k : G (pc + 3) vs (.ref (h 18) :: st) σ) : G pc vs (.ref (h 0) :: st) σ := by
  obtain ⟨p, e, s, m, args, below, meth, c, cells, slots, Q, A, hx, hb, hml, hown, hts, hA, hE, hc1, hc2, rfl⟩ := hG
  intro H locs ls hX hl
  exact va_get (D := D) (ci := 0) (C := RX1) (T := TX1) (N := 20) hx hb hts in_X1 hown hX.1 hX.2.1 0 rfl rfl 18 (by decide) (hts _ q50) (fun _ h9 => h9) rfl hd (k H locs ls hX hl)
theorem tv_gX_19 (hG : tv_isG l cc n RX1 R D (tv_tX d) (tv_wX h d) E G) (hd : decode cc pc = .ok (.getfield 49, 3)) (k : G (pc + 3) vs (.ref (h 19) :: st) σ) : G pc vs (.ref (h 0) :: st) σ := by
  obtain ⟨p, e, s, m, args, below, meth, c, cells, slots, Q, A, hx, hb, hml, hown, hts, hA, hE, hc1, hc2, rfl⟩ := hG
  intro H locs ls hX hl
  exact va_get (D := D) (ci := 0) (C := RX1) (T := TX1) (N := 20) hx hb hts in_X1 hown hX.1 hX.2.1 0 rfl rfl 19 (by decide) (hts _ q51) (fun _ h9 => h9) rfl hd (k H locs ls hX hl)
theorem tv_lX_1 (hG : tv_isG l cc n RX1 R D (tv_tX d) (tv_wX h d) E G) {j v : Nat} (hv : σ 1 j = v) (hd : decode cc pc = .ok (.baload, 1)) (hj : j < 18) (k : G (pc + 1) vs (.int (nI v) :: st) σ) : G pc vs (.int (nI j) :: .ref (h 1) :: st) σ := by
  obtain ⟨p, e, s, m, args, below, meth, c, cells, slots, Q, A, hx, hb, hml, hown, hts, hA, hE, hc1, hc2, rfl⟩ := hG
  intro H locs ls hX hl
  subst hv
  refine va_bald hx hb hX.1 hX.2.1 1 0 rfl rfl (vp_in_nI hj (by decide)) hd ?_
  rw [nI_clamp (by omega)]
  exact k H locs ls hX hl
theorem tv_sX_1 (hG : tv_isG l cc n RX1 R D (tv_tX d) (tv_wX h d) E G) {j v : Nat} (hd : decode cc pc = .ok (.bastore, 1)) (hj : j < 18) (hv : v < 128) (k : G (pc + 1) vs st (tv_st σ 1 j v)) : G pc vs (.int (nI v) :: .int (nI j) :: .ref (h 1) :: st) σ := by
  obtain ⟨p, e, s, m, args, below, meth, c, cells, slots, Q, A, hx, hb, hml, hown, hts, hA, hE, hc1, hc2, rfl⟩ := hG
  intro H locs ls hX hl
  obtain ⟨hK, hP, hD, hS⟩ := hX
  refine va_bast hx hb hK hP hD hS 1 0 rfl rfl (vp_in_nI hj (by decide)) hd (fun H1 locs1 hP1 hD1 hS1 => ?_)
  have hup := tv_updB (σ 1) (show j < 2147483648 by omega) hv
  rw [hup] at hP1 hD1
  exact k H1 locs1 ls ⟨hK, hP1, hD1, hS1⟩ hl
theorem tv_lX_2 (hG : tv_isG l cc n RX1 R D (tv_tX d) (tv_wX h d) E G) {j v : Nat} (hv : σ 2 j = v) (hd : decode cc pc = .ok (.baload, 1)) (hj : j < 2) (k : G (pc + 1) vs (.int (nI v) :: st) σ) : G pc vs (.int (nI j) :: .ref (h 2) :: st) σ := by
  obtain ⟨p, e, s, m, args, below, meth, c, cells, slots, Q, A, hx, hb, hml, hown, hts, hA, hE, hc1, hc2, rfl⟩ := hG
  intro H locs ls hX hl
  subst hv
  refine va_bald hx hb hX.1 hX.2.1 2 1 rfl rfl (vp_in_nI hj (by decide)) hd ?_
  rw [nI_clamp (by omega)]
  exact k H locs ls hX hl
theorem tv_sX_2 (hG : tv_isG l cc n RX1 R D (tv_tX d) (tv_wX h d) E G) {j v : Nat} (hd : decode cc pc = .ok (.bastore, 1)) (hj : j < 2) (hv : v < 128) (k : G (pc + 1) vs st (tv_st σ 2 j v)) : G pc vs (.int (nI v) :: .int (nI j) :: .ref (h 2) :: st) σ := by
  obtain ⟨p, e, s, m, args, below, meth, c, cells, slots, Q, A, hx, hb, hml, hown, hts, hA, hE, hc1, hc2, rfl⟩ := hG
  intro H locs ls hX hl
  obtain ⟨hK, hP, hD, hS⟩ := hX
  refine va_bast hx hb hK hP hD hS 2 1 rfl rfl (vp_in_nI hj (by decide)) hd (fun H1 locs1 hP1 hD1 hS1 => ?_)
  have hup := tv_updB (σ 2) (show j < 2147483648 by omega) hv
  rw [hup] at hP1 hD1
  exact k H1 locs1 ls ⟨hK, hP1, hD1, hS1⟩ hl
theorem tv_lX_3 (hG : tv_isG l cc n RX1 R D (tv_tX d) (tv_wX h d) E G) {j v : Nat} (hv : σ 3 j = v) (hd : decode cc pc = .ok (.baload, 1)) (hj : j < 18) (k : G (pc + 1) vs (.int (nI v) :: st) σ) : G pc vs (.int (nI j) :: .ref (h 3) :: st) σ := by
  obtain ⟨p, e, s, m, args, below, meth, c, cells, slots, Q, A, hx, hb, hml, hown, hts, hA, hE, hc1, hc2, rfl⟩ := hG
  intro H locs ls hX hl
  subst hv
  refine va_bald hx hb hX.1 hX.2.1 3 2 rfl rfl (vp_in_nI hj (by decide)) hd ?_
  rw [nI_clamp (by omega)]
  exact k H locs ls hX hl
theorem tv_sX_3 (hG : tv_isG l cc n RX1 R D (tv_tX d) (tv_wX h d) E G) {j v : Nat} (hd : decode cc pc = .ok (.bastore, 1)) (hj : j < 18) (hv : v < 128) (k : G (pc + 1) vs st (tv_st σ 3 j v)) : G pc vs (.int (nI v) :: .int (nI j) :: .ref (h 3) :: st) σ := by
  obtain ⟨p, e, s, m, args, below, meth, c, cells, slots, Q, A, hx, hb, hml, hown, hts, hA, hE, hc1, hc2, rfl⟩ := hG
  intro H locs ls hX hl
  obtain ⟨hK, hP, hD, hS⟩ := hX
  refine va_bast hx hb hK hP hD hS 3 2 rfl rfl (vp_in_nI hj (by decide)) hd (fun H1 locs1 hP1 hD1 hS1 => ?_)
  have hup := tv_updB (σ 3) (show j < 2147483648 by omega) hv
  rw [hup] at hP1 hD1
  exact k H1 locs1 ls ⟨hK, hP1, hD1, hS1⟩ hl
theorem tv_lX_4 (hG : tv_isG l cc n RX1 R D (tv_tX d) (tv_wX h d) E G) {j v : Nat} (hv : σ 4 j = v) (hd : decode cc pc = .ok (.baload, 1)) (hj : j < 10) (k : G (pc + 1) vs (.int (nI v) :: st) σ) : G pc vs (.int (nI j) :: .ref (h 4) :: st) σ := by
  obtain ⟨p, e, s, m, args, below, meth, c, cells, slots, Q, A, hx, hb, hml, hown, hts, hA, hE, hc1, hc2, rfl⟩ := hG
  intro H locs ls hX hl
  subst hv
  refine va_bald hx hb hX.1 hX.2.1 4 3 rfl rfl (vp_in_nI hj (by decide)) hd ?_
  rw [nI_clamp (by omega)]
  exact k H locs ls hX hl
theorem tv_sX_4 (hG : tv_isG l cc n RX1 R D (tv_tX d) (tv_wX h d) E G) {j v : Nat} (hd : decode cc pc = .ok (.bastore, 1)) (hj : j < 10) (hv : v < 128) (k : G (pc + 1) vs st (tv_st σ 4 j v)) : G pc vs (.int (nI v) :: .int (nI j) :: .ref (h 4) :: st) σ := by
  obtain ⟨p, e, s, m, args, below, meth, c, cells, slots, Q, A, hx, hb, hml, hown, hts, hA, hE, hc1, hc2, rfl⟩ := hG
  intro H locs ls hX hl
  obtain ⟨hK, hP, hD, hS⟩ := hX
  refine va_bast hx hb hK hP hD hS 4 3 rfl rfl (vp_in_nI hj (by decide)) hd (fun H1 locs1 hP1 hD1 hS1 => ?_)
  have hup := tv_updB (σ 4) (show j < 2147483648 by omega) hv
  rw [hup] at hP1 hD1
  exact k H1 locs1 ls ⟨hK, hP1, hD1, hS1⟩ hl
theorem tv_lX_5 (hG : tv_isG l cc n RX1 R D (tv_tX d) (tv_wX h d) E G) {j v : Nat} (hv : σ 5 j = v) (hd : decode cc pc = .ok (.baload, 1)) (hj : j < 10) (k : G (pc + 1) vs (.int (nI v) :: st) σ) : G pc vs (.int (nI j) :: .ref (h 5) :: st) σ := by
  obtain ⟨p, e, s, m, args, below, meth, c, cells, slots, Q, A, hx, hb, hml, hown, hts, hA, hE, hc1, hc2, rfl⟩ := hG
  intro H locs ls hX hl
  subst hv
  refine va_bald hx hb hX.1 hX.2.1 5 4 rfl rfl (vp_in_nI hj (by decide)) hd ?_
  rw [nI_clamp (by omega)]
  exact k H locs ls hX hl
theorem tv_sX_5 (hG : tv_isG l cc n RX1 R D (tv_tX d) (tv_wX h d) E G) {j v : Nat} (hd : decode cc pc = .ok (.bastore, 1)) (hj : j < 10) (hv : v < 128) (k : G (pc + 1) vs st (tv_st σ 5 j v)) : G pc vs (.int (nI v) :: .int (nI j) :: .ref (h 5) :: st) σ := by
  obtain ⟨p, e, s, m, args, below, meth, c, cells, slots, Q, A, hx, hb, hml, hown, hts, hA, hE, hc1, hc2, rfl⟩ := hG
  intro H locs ls hX hl
  obtain ⟨hK, hP, hD, hS⟩ := hX
  refine va_bast hx hb hK hP hD hS 5 4 rfl rfl (vp_in_nI hj (by decide)) hd (fun H1 locs1 hP1 hD1 hS1 => ?_)
  have hup := tv_updB (σ 5) (show j < 2147483648 by omega) hv
  rw [hup] at hP1 hD1
  exact k H1 locs1 ls ⟨hK, hP1, hD1, hS1⟩ hl
theorem tv_lX_7 (hG : tv_isG l cc n RX1 R D (tv_tX d) (tv_wX h d) E G) {j v : Nat} (hv : σ 7 j = v) (hd : decode cc pc = .ok (.baload, 1)) (hj : j < 32) (k : G (pc + 1) vs (.int (nI v) :: st) σ) : G pc vs (.int (nI j) :: .ref (h 7) :: st) σ := by
  obtain ⟨p, e, s, m, args, below, meth, c, cells, slots, Q, A, hx, hb, hml, hown, hts, hA, hE, hc1, hc2, rfl⟩ := hG
  intro H locs ls hX hl
  subst hv
  refine va_bald hx hb hX.1 hX.2.1 6 5 rfl rfl (vp_in_nI hj (by decide)) hd ?_
  rw [nI_clamp (by omega)]
  exact k H locs ls hX hl
theorem tv_sX_7 (hG : tv_isG l cc n RX1 R D (tv_tX d) (tv_wX h d) E G) {j v : Nat} (hd : decode cc pc = .ok (.bastore, 1)) (hj : j < 32) (hv : v < 128) (k : G (pc + 1) vs st (tv_st σ 7 j v)) : G pc vs (.int (nI v) :: .int (nI j) :: .ref (h 7) :: st) σ := by
  obtain ⟨p, e, s, m, args, below, meth, c, cells, slots, Q, A, hx, hb, hml, hown, hts, hA, hE, hc1, hc2, rfl⟩ := hG
  intro H locs ls hX hl
  obtain ⟨hK, hP, hD, hS⟩ := hX
  refine va_bast hx hb hK hP hD hS 6 5 rfl rfl (vp_in_nI hj (by decide)) hd (fun H1 locs1 hP1 hD1 hS1 => ?_)
  have hup := tv_updB (σ 7) (show j < 2147483648 by omega) hv
  rw [hup] at hP1 hD1
  exact k H1 locs1 ls ⟨hK, hP1, hD1, hS1⟩ hl
theorem tv_lX_8 (hG : tv_isG l cc n RX1 R D (tv_tX d) (tv_wX h d) E G) {j v : Nat} (hv : σ 8 j = v) (hd : decode cc pc = .ok (.baload, 1)) (hj : j < 32) (k : G (pc + 1) vs (.int (nI v) :: st) σ) : G pc vs (.int (nI j) :: .ref (h 8) :: st) σ := by
  obtain ⟨p, e, s, m, args, below, meth, c, cells, slots, Q, A, hx, hb, hml, hown, hts, hA, hE, hc1, hc2, rfl⟩ := hG
  intro H locs ls hX hl
  subst hv
  refine va_bald hx hb hX.1 hX.2.1 7 6 rfl rfl (vp_in_nI hj (by decide)) hd ?_
  rw [nI_clamp (by omega)]
  exact k H locs ls hX hl
theorem tv_sX_8 (hG : tv_isG l cc n RX1 R D (tv_tX d) (tv_wX h d) E G) {j v : Nat} (hd : decode cc pc = .ok (.bastore, 1)) (hj : j < 32) (hv : v < 128) (k : G (pc + 1) vs st (tv_st σ 8 j v)) : G pc vs (.int (nI v) :: .int (nI j) :: .ref (h 8) :: st) σ := by
  obtain ⟨p, e, s, m, args, below, meth, c, cells, slots, Q, A, hx, hb, hml, hown, hts, hA, hE, hc1, hc2, rfl⟩ := hG
  intro H locs ls hX hl
  obtain ⟨hK, hP, hD, hS⟩ := hX
  refine va_bast hx hb hK hP hD hS 7 6 rfl rfl (vp_in_nI hj (by decide)) hd (fun H1 locs1 hP1 hD1 hS1 => ?_)
  have hup := tv_updB (σ 8) (show j < 2147483648 by omega) hv
  rw [hup] at hP1 hD1
  exact k H1 locs1 ls ⟨hK, hP1, hD1, hS1⟩ hl
theorem tv_lX_11 (hG : tv_isG l cc n RX1 R D (tv_tX d) (tv_wX h d) E G) {j v : Nat} (hv : σ 11 j = v) (hd : decode cc pc = .ok (.baload, 1)) (hj : j < 4) (k : G (pc + 1) vs (.int (nI v) :: st) σ) : G pc vs (.int (nI j) :: .ref (h 11) :: st) σ := by
  obtain ⟨p, e, s, m, args, below, meth, c, cells, slots, Q, A, hx, hb, hml, hown, hts, hA, hE, hc1, hc2, rfl⟩ := hG
  intro H locs ls hX hl
  subst hv
  refine va_bald hx hb hX.1 hX.2.1 8 7 rfl rfl (vp_in_nI hj (by decide)) hd ?_
  rw [nI_clamp (by omega)]
  exact k H locs ls hX hl
theorem tv_sX_11 (hG : tv_isG l cc n RX1 R D (tv_tX d) (tv_wX h d) E G) {j v : Nat} (hd : decode cc pc = .ok (.bastore, 1)) (hj : j < 4) (hv : v < 128) (k : G (pc + 1) vs st (tv_st σ 11 j v)) : G pc vs (.int (nI v) :: .int (nI j) :: .ref (h 11) :: st) σ := by
  obtain ⟨p, e, s, m, args, below, meth, c, cells, slots, Q, A, hx, hb, hml, hown, hts, hA, hE, hc1, hc2, rfl⟩ := hG
  intro H locs ls hX hl
  obtain ⟨hK, hP, hD, hS⟩ := hX
  refine va_bast hx hb hK hP hD hS 8 7 rfl rfl (vp_in_nI hj (by decide)) hd (fun H1 locs1 hP1 hD1 hS1 => ?_)
  have hup := tv_updB (σ 11) (show j < 2147483648 by omega) hv
  rw [hup] at hP1 hD1
  exact k H1 locs1 ls ⟨hK, hP1, hD1, hS1⟩ hl
theorem tv_lX_12 (hG : tv_isG l cc n RX1 R D (tv_tX d) (tv_wX h d) E G) {j v : Nat} (hv : σ 12 j = v) (hd : decode cc pc = .ok (.baload, 1)) (hj : j < 12) (k : G (pc + 1) vs (.int (nI v) :: st) σ) : G pc vs (.int (nI j) :: .ref (h 12) :: st) σ := by
  obtain ⟨p, e, s, m, args, below, meth, c, cells, slots, Q, A, hx, hb, hml, hown, hts, hA, hE, hc1, hc2, rfl⟩ := hG
  intro H locs ls hX hl
  subst hv
  refine va_bald hx hb hX.1 hX.2.1 9 8 rfl rfl (vp_in_nI hj (by decide)) hd ?_
  rw [nI_clamp (by omega)]
  exact k H locs ls hX hl
theorem tv_sX_12 (hG : tv_isG l cc n RX1 R D (tv_tX d) (tv_wX h d) E G) {j v : Nat} (hd : decode cc pc = .ok (.bastore, 1)) (hj : j < 12) (hv : v < 128) (k : G (pc + 1) vs st (tv_st σ 12 j v)) : G pc vs (.int (nI v) :: .int (nI j) :: .ref (h 12) :: st) σ := by
  obtain ⟨p, e, s, m, args, below, meth, c, cells, slots, Q, A, hx, hb, hml, hown, hts, hA, hE, hc1, hc2, rfl⟩ := hG
  intro H locs ls hX hl
  obtain ⟨hK, hP, hD, hS⟩ := hX
  refine va_bast hx hb hK hP hD hS 9 8 rfl rfl (vp_in_nI hj (by decide)) hd (fun H1 locs1 hP1 hD1 hS1 => ?_)
  have hup := tv_updB (σ 12) (show j < 2147483648 by omega) hv
  rw [hup] at hP1 hD1
  exact k H1 locs1 ls ⟨hK, hP1, hD1, hS1⟩ hl
theorem tv_lX_13 (hG : tv_isG l cc n RX1 R D (tv_tX d) (tv_wX h d) E G) {j v : Nat} (hv : σ 13 j = v) (hd : decode cc pc = .ok (.baload, 1)) (hj : j < 12) (k : G (pc + 1) vs (.int (nI v) :: st) σ) : G pc vs (.int (nI j) :: .ref (h 13) :: st) σ := by
  obtain ⟨p, e, s, m, args, below, meth, c, cells, slots, Q, A, hx, hb, hml, hown, hts, hA, hE, hc1, hc2, rfl⟩ := hG
  intro H locs ls hX hl
  subst hv
  refine va_bald hx hb hX.1 hX.2.1 10 9 rfl rfl (vp_in_nI hj (by decide)) hd ?_
  rw [nI_clamp (by omega)]
  exact k H locs ls hX hl
theorem tv_sX_13 (hG : tv_isG l cc n RX1 R D (tv_tX d) (tv_wX h d) E G) {j v : Nat} (hd : decode cc pc = .ok (.bastore, 1)) (hj : j < 12) (hv : v < 128) (k : G (pc + 1) vs st (tv_st σ 13 j v)) : G pc vs (.int (nI v) :: .int (nI j) :: .ref (h 13) :: st) σ := by
  obtain ⟨p, e, s, m, args, below, meth, c, cells, slots, Q, A, hx, hb, hml, hown, hts, hA, hE, hc1, hc2, rfl⟩ := hG
  intro H locs ls hX hl
  obtain ⟨hK, hP, hD, hS⟩ := hX
  refine va_bast hx hb hK hP hD hS 10 9 rfl rfl (vp_in_nI hj (by decide)) hd (fun H1 locs1 hP1 hD1 hS1 => ?_)
  have hup := tv_updB (σ 13) (show j < 2147483648 by omega) hv
  rw [hup] at hP1 hD1
  exact k H1 locs1 ls ⟨hK, hP1, hD1, hS1⟩ hl
theorem tv_lX_14 (hG : tv_isG l cc n RX1 R D (tv_tX d) (tv_wX h d) E G) {j v : Nat} (hv : σ 14 j = v) (hd : decode cc pc = .ok (.baload, 1)) (hj : j < 48) (k : G (pc + 1) vs (.int (nI v) :: st) σ) : G pc vs (.int (nI j) :: .ref (h 14) :: st) σ := by
  obtain ⟨p, e, s, m, args, below, meth, c, cells, slots, Q, A, hx, hb, hml, hown, hts, hA, hE, hc1, hc2, rfl⟩ := hG
  intro H locs ls hX hl
  subst hv
  refine va_bald hx hb hX.1 hX.2.1 11 10 rfl rfl (vp_in_nI hj (by decide)) hd ?_
  rw [nI_clamp (by omega)]
  exact k H locs ls hX hl
theorem tv_sX_14 (hG : tv_isG l cc n RX1 R D (tv_tX d) (tv_wX h d) E G) {j v : Nat} (hd : decode cc pc = .ok (.bastore, 1)) (hj : j < 48) (hv : v < 128) (k : G (pc + 1) vs st (tv_st σ 14 j v)) : G pc vs (.int (nI v) :: .int (nI j) :: .ref (h 14) :: st) σ := by
  obtain ⟨p, e, s, m, args, below, meth, c, cells, slots, Q, A, hx, hb, hml, hown, hts, hA, hE, hc1, hc2, rfl⟩ := hG
  intro H locs ls hX hl
  obtain ⟨hK, hP, hD, hS⟩ := hX
  refine va_bast hx hb hK hP hD hS 11 10 rfl rfl (vp_in_nI hj (by decide)) hd (fun H1 locs1 hP1 hD1 hS1 => ?_)
  have hup := tv_updB (σ 14) (show j < 2147483648 by omega) hv
  rw [hup] at hP1 hD1
  exact k H1 locs1 ls ⟨hK, hP1, hD1, hS1⟩ hl
theorem tv_lX_15 (hG : tv_isG l cc n RX1 R D (tv_tX d) (tv_wX h d) E G) {j v : Nat} (hv : σ 15 j = v) (hd : decode cc pc = .ok (.baload, 1)) (hj : j < 12) (k : G (pc + 1) vs (.int (nI v - 1) :: st) σ) : G pc vs (.int (nI j) :: .ref (h 15) :: st) σ := by
  obtain ⟨p, e, s, m, args, below, meth, c, cells, slots, Q, A, hx, hb, hml, hown, hts, hA, hE, hc1, hc2, rfl⟩ := hG
  intro H locs ls hX hl
  subst hv
  refine va_bald hx hb hX.1 hX.2.1 12 11 rfl rfl (vp_in_nI hj (by decide)) hd ?_
  rw [nI_clamp (by omega)]
  exact k H locs ls hX hl
theorem tv_sX_15 (hG : tv_isG l cc n RX1 R D (tv_tX d) (tv_wX h d) E G) {j v : Nat} {z : Int32} (hz : z = nI v - 1) (hd : decode cc pc = .ok (.bastore, 1)) (hj : j < 12) (hv : v < 128) (k : G (pc + 1) vs st (tv_st σ 15 j v)) : G pc vs (.int (z) :: .int (nI j) :: .ref (h 15) :: st) σ := by
  obtain ⟨p, e, s, m, args, below, meth, c, cells, slots, Q, A, hx, hb, hml, hown, hts, hA, hE, hc1, hc2, rfl⟩ := hG
  intro H locs ls hX hl
  subst hz
  obtain ⟨hK, hP, hD, hS⟩ := hX
  refine va_bast hx hb hK hP hD hS 12 11 rfl rfl (vp_in_nI hj (by decide)) hd (fun H1 locs1 hP1 hD1 hS1 => ?_)
  have hup := tv_updT (σ 15) (show j < 2147483648 by omega) hv
  rw [hup] at hP1 hD1
  exact k H1 locs1 ls ⟨hK, hP1, hD1, hS1⟩ hl
theorem tv_lX_18 (hG : tv_isG l cc n RX1 R D (tv_tX d) (tv_wX h d) E G) {j v : Nat} (hv : σ 18 j = v) (hd : decode cc pc = .ok (.baload, 1)) (hj : j < 4) (k : G (pc + 1) vs (.int (nI v) :: st) σ) : G pc vs (.int (nI j) :: .ref (h 18) :: st) σ := by
  obtain ⟨p, e, s, m, args, below, meth, c, cells, slots, Q, A, hx, hb, hml, hown, hts, hA, hE, hc1, hc2, rfl⟩ := hG
  intro H locs ls hX hl
  subst hv
  refine va_bald hx hb hX.1 hX.2.1 13 12 rfl rfl (vp_in_nI hj (by decide)) hd ?_
  rw [nI_clamp (by omega)]
  exact k H locs ls hX hl
theorem tv_sX_18 (hG : tv_isG l cc n RX1 R D (tv_tX d) (tv_wX h d) E G) {j v : Nat} (hd : decode cc pc = .ok (.bastore, 1)) (hj : j < 4) (hv : v < 128) (k : G (pc + 1) vs st (tv_st σ 18 j v)) : G pc vs (.int (nI v) :: .int (nI j) :: .ref (h 18) :: st) σ := by
  obtain ⟨p, e, s, m, args, below, meth, c, cells, slots, Q, A, hx, hb, hml, hown, hts, hA, hE, hc1, hc2, rfl⟩ := hG
  intro H locs ls hX hl
  obtain ⟨hK, hP, hD, hS⟩ := hX
  refine va_bast hx hb hK hP hD hS 13 12 rfl rfl (vp_in_nI hj (by decide)) hd (fun H1 locs1 hP1 hD1 hS1 => ?_)
  have hup := tv_updB (σ 18) (show j < 2147483648 by omega) hv
  rw [hup] at hP1 hD1
  exact k H1 locs1 ls ⟨hK, hP1, hD1, hS1⟩ hl
theorem tv_lX_19 (hG : tv_isG l cc n RX1 R D (tv_tX d) (tv_wX h d) E G) {j v : Nat} (hv : σ 19 j = v) (hd : decode cc pc = .ok (.baload, 1)) (hj : j < 18) (k : G (pc + 1) vs (.int (nI v) :: st) σ) : G pc vs (.int (nI j) :: .ref (h 19) :: st) σ := by
  obtain ⟨p, e, s, m, args, below, meth, c, cells, slots, Q, A, hx, hb, hml, hown, hts, hA, hE, hc1, hc2, rfl⟩ := hG
  intro H locs ls hX hl
  subst hv
  refine va_bald hx hb hX.1 hX.2.1 14 13 rfl rfl (vp_in_nI hj (by decide)) hd ?_
  rw [nI_clamp (by omega)]
  exact k H locs ls hX hl
theorem tv_sX_19 (hG : tv_isG l cc n RX1 R D (tv_tX d) (tv_wX h d) E G) {j v : Nat} (hd : decode cc pc = .ok (.bastore, 1)) (hj : j < 18) (hv : v < 128) (k : G (pc + 1) vs st (tv_st σ 19 j v)) : G pc vs (.int (nI v) :: .int (nI j) :: .ref (h 19) :: st) σ := by
  obtain ⟨p, e, s, m, args, below, meth, c, cells, slots, Q, A, hx, hb, hml, hown, hts, hA, hE, hc1, hc2, rfl⟩ := hG
  intro H locs ls hX hl
  obtain ⟨hK, hP, hD, hS⟩ := hX
  refine va_bast hx hb hK hP hD hS 14 13 rfl rfl (vp_in_nI hj (by decide)) hd (fun H1 locs1 hP1 hD1 hS1 => ?_)
  have hup := tv_updB (σ 19) (show j < 2147483648 by omega) hv
  rw [hup] at hP1 hD1
  exact k H1 locs1 ls ⟨hK, hP1, hD1, hS1⟩ hl
theorem tv_gM_20 (hG : tv_isG l cc n RX2 R D (tv_tM d) (tv_wM h d) E G) {v : Nat} (hv : σ 20 0 = v) (hd : decode cc pc = .ok (.getfield 19, 3)) (k : G (pc + 3) vs (.int (nI v) :: st) σ) : G pc vs (.ref (h 20) :: st) σ := by
  obtain ⟨p, e, s, m, args, below, meth, c, cells, slots, Q, A, hx, hb, hml, hown, hts, hA, hE, hc1, hc2, rfl⟩ := hG
  intro H locs ls hX hl
  subst hv
  exact va_get (D := D) (ci := 1) (C := RX2) (T := TX2) (N := 4) hx hb hts in_X2 hown hX.1 hX.2.1 0 rfl rfl 0 (by decide) (hts _ q241) (fun _ h9 => h9) rfl hd (k H locs ls hX hl)
theorem tv_pM_20 (hG : tv_isG l cc n RX2 R D (tv_tM d) (tv_wM h d) E G) {v : Nat} (hd : decode cc pc = .ok (.putfield 19, 3)) (k : G (pc + 3) vs st (tv_st σ 20 0 v)) : G pc vs (.int (nI v) :: .ref (h 20) :: st) σ := by
  obtain ⟨p, e, s, m, args, below, meth, c, cells, slots, Q, A, hx, hb, hml, hown, hts, hA, hE, hc1, hc2, rfl⟩ := hG
  intro H locs ls hX hl
  obtain ⟨hK, hP, hD, hS⟩ := hX
  refine va_put (D := D) (ci := 1) (v := .int (nI v)) (ty := .int) (C := RX2) (T := TX2) (N := 4) hx hb hts in_X2 tyX2 tyX2_ok nmX2 hown hK hP hD hS 0 rfl rfl 0 (by decide) (hts _ q241) (fun _ h9 => h9) rfl (by decide +kernel) rfl rfl (Nat.le_of_ble_eq_true rfl) hd (fun H1 locs1 hP1 hD1 hS1 => ?_)
  exact k H1 locs1 ls ⟨hK, hP1, hD1, hS1⟩ hl
theorem tv_gM_21 (hG : tv_isG l cc n RX2 R D (tv_tM d) (tv_wM h d) E G) (hd : decode cc pc = .ok (.getfield 7, 3)) (k : G (pc + 3) vs (.ref (h 21) :: st) σ) : G pc vs (.ref (h 20) :: st) σ := by
  obtain ⟨p, e, s, m, args, below, meth, c, cells, slots, Q, A, hx, hb, hml, hown, hts, hA, hE, hc1, hc2, rfl⟩ := hG
  intro H locs ls hX hl
  exact va_get (D := D) (ci := 1) (C := RX2) (T := TX2) (N := 4) hx hb hts in_X2 hown hX.1 hX.2.1 0 rfl rfl 1 (by decide) (hts _ q242) (fun _ h9 => h9) rfl hd (k H locs ls hX hl)
theorem tv_gM_22 (hG : tv_isG l cc n RX2 R D (tv_tM d) (tv_wM h d) E G) (hd : decode cc pc = .ok (.getfield 13, 3)) (k : G (pc + 3) vs (.ref (h 22) :: st) σ) : G pc vs (.ref (h 20) :: st) σ := by
  obtain ⟨p, e, s, m, args, below, meth, c, cells, slots, Q, A, hx, hb, hml, hown, hts, hA, hE, hc1, hc2, rfl⟩ := hG
  intro H locs ls hX hl
  exact va_get (D := D) (ci := 1) (C := RX2) (T := TX2) (N := 4) hx hb hts in_X2 hown hX.1 hX.2.1 0 rfl rfl 2 (by decide) (hts _ q243) (fun _ h9 => h9) rfl hd (k H locs ls hX hl)
theorem tv_gM_23 (hG : tv_isG l cc n RX2 R D (tv_tM d) (tv_wM h d) E G) (hd : decode cc pc = .ok (.getfield 16, 3)) (k : G (pc + 3) vs (.ref (h 23) :: st) σ) : G pc vs (.ref (h 20) :: st) σ := by
  obtain ⟨p, e, s, m, args, below, meth, c, cells, slots, Q, A, hx, hb, hml, hown, hts, hA, hE, hc1, hc2, rfl⟩ := hG
  intro H locs ls hX hl
  exact va_get (D := D) (ci := 1) (C := RX2) (T := TX2) (N := 4) hx hb hts in_X2 hown hX.1 hX.2.1 0 rfl rfl 3 (by decide) (hts _ q244) (fun _ h9 => h9) rfl hd (k H locs ls hX hl)
theorem tv_lM_21 (hG : tv_isG l cc n RX2 R D (tv_tM d) (tv_wM h d) E G) {j v : Nat} (hv : σ 21 j = v) (hd : decode cc pc = .ok (.iaload, 1)) (hj : j < 2) (k : G (pc + 1) vs (.int (nI v) :: st) σ) : G pc vs (.int (nI j) :: .ref (h 21) :: st) σ := by
  obtain ⟨p, e, s, m, args, below, meth, c, cells, slots, Q, A, hx, hb, hml, hown, hts, hA, hE, hc1, hc2, rfl⟩ := hG
  intro H locs ls hX hl
  subst hv
  refine va_iald hx hb hX.1 hX.2.1 1 0 rfl rfl (vp_in_nI hj (by decide)) hd ?_
  rw [nI_clamp (by omega)]
  exact k H locs ls hX hl
theorem tv_sM_21 (hG : tv_isG l cc n RX2 R D (tv_tM d) (tv_wM h d) E G) {j v : Nat} (hd : decode cc pc = .ok (.iastore, 1)) (hj : j < 2) (k : G (pc + 1) vs st (tv_st σ 21 j v)) : G pc vs (.int (nI v) :: .int (nI j) :: .ref (h 21) :: st) σ := by
  obtain ⟨p, e, s, m, args, below, meth, c, cells, slots, Q, A, hx, hb, hml, hown, hts, hA, hE, hc1, hc2, rfl⟩ := hG
  intro H locs ls hX hl
  obtain ⟨hK, hP, hD, hS⟩ := hX
  refine va_iast hx hb hK hP hD hS 1 0 rfl rfl (vp_in_nI hj (by decide)) hd (fun H1 locs1 hP1 hD1 hS1 => ?_)
  have hup := tv_updI (v := v) (σ 21) (show j < 2147483648 by omega)
  rw [hup] at hP1 hD1
  exact k H1 locs1 ls ⟨hK, hP1, hD1, hS1⟩ hl
theorem tv_lM_22 (hG : tv_isG l cc n RX2 R D (tv_tM d) (tv_wM h d) E G) {j v : Nat} (hv : σ 22 j = v) (hd : decode cc pc = .ok (.iaload, 1)) (hj : j < 18) (k : G (pc + 1) vs (.int (nI v) :: st) σ) : G pc vs (.int (nI j) :: .ref (h 22) :: st) σ := by
  obtain ⟨p, e, s, m, args, below, meth, c, cells, slots, Q, A, hx, hb, hml, hown, hts, hA, hE, hc1, hc2, rfl⟩ := hG
  intro H locs ls hX hl
  subst hv
  refine va_iald hx hb hX.1 hX.2.1 2 1 rfl rfl (vp_in_nI hj (by decide)) hd ?_
  rw [nI_clamp (by omega)]
  exact k H locs ls hX hl
theorem tv_sM_22 (hG : tv_isG l cc n RX2 R D (tv_tM d) (tv_wM h d) E G) {j v : Nat} (hd : decode cc pc = .ok (.iastore, 1)) (hj : j < 18) (k : G (pc + 1) vs st (tv_st σ 22 j v)) : G pc vs (.int (nI v) :: .int (nI j) :: .ref (h 22) :: st) σ := by
  obtain ⟨p, e, s, m, args, below, meth, c, cells, slots, Q, A, hx, hb, hml, hown, hts, hA, hE, hc1, hc2, rfl⟩ := hG
  intro H locs ls hX hl
  obtain ⟨hK, hP, hD, hS⟩ := hX
  refine va_iast hx hb hK hP hD hS 2 1 rfl rfl (vp_in_nI hj (by decide)) hd (fun H1 locs1 hP1 hD1 hS1 => ?_)
  have hup := tv_updI (v := v) (σ 22) (show j < 2147483648 by omega)
  rw [hup] at hP1 hD1
  exact k H1 locs1 ls ⟨hK, hP1, hD1, hS1⟩ hl
theorem tv_lM_23 (hG : tv_isG l cc n RX2 R D (tv_tM d) (tv_wM h d) E G) {j v : Nat} (hv : σ 23 j = v) (hd : decode cc pc = .ok (.iaload, 1)) (hj : j < 10) (k : G (pc + 1) vs (.int (nI v) :: st) σ) : G pc vs (.int (nI j) :: .ref (h 23) :: st) σ := by
  obtain ⟨p, e, s, m, args, below, meth, c, cells, slots, Q, A, hx, hb, hml, hown, hts, hA, hE, hc1, hc2, rfl⟩ := hG
  intro H locs ls hX hl
  subst hv
  refine va_iald hx hb hX.1 hX.2.1 3 2 rfl rfl (vp_in_nI hj (by decide)) hd ?_
  rw [nI_clamp (by omega)]
  exact k H locs ls hX hl
theorem tv_sM_23 (hG : tv_isG l cc n RX2 R D (tv_tM d) (tv_wM h d) E G) {j v : Nat} (hd : decode cc pc = .ok (.iastore, 1)) (hj : j < 10) (k : G (pc + 1) vs st (tv_st σ 23 j v)) : G pc vs (.int (nI v) :: .int (nI j) :: .ref (h 23) :: st) σ := by
  obtain ⟨p, e, s, m, args, below, meth, c, cells, slots, Q, A, hx, hb, hml, hown, hts, hA, hE, hc1, hc2, rfl⟩ := hG
  intro H locs ls hX hl
  obtain ⟨hK, hP, hD, hS⟩ := hX
  refine va_iast hx hb hK hP hD hS 3 2 rfl rfl (vp_in_nI hj (by decide)) hd (fun H1 locs1 hP1 hD1 hS1 => ?_)
  have hup := tv_updI (v := v) (σ 23) (show j < 2147483648 by omega)
  rw [hup] at hP1 hD1
  exact k H1 locs1 ls ⟨hK, hP1, hD1, hS1⟩ hl
end
end
section
set_option maxRecDepth 100000
/-! PURE: the tables of truth, sets of values as bits -/
def tv_ar (t : Nat) : Nat := if t = 0 then 1 else if t < 4 then 2 else 0
def tv_not (lg x : Nat) : Nat := if lg = 2 then (if x = 0 then 2 else 0) else 2 - x
def tv_app (lg t x y : Nat) : Nat := if t = 1 then (if x < y then x else y) else if t = 2 then (if y < x then x else y) else if lg = 0 then (if 2 - x + y < 2 then 2 - x + y else 2) else if lg = 1 then (if y < 2 - x then 2 - x else y) else (if x ≤ y then 2 else y)
theorem tv_not_le (lg x : Nat) : tv_not lg x ≤ 2 := by
  unfold tv_not
  (repeat' split) <;> omega
theorem tv_app_le {lg t x y : Nat} (hx : x ≤ 2) (hy : y ≤ 2) : tv_app lg t x y ≤ 2 := by
  unfold tv_app
  (repeat' split) <;> omega
theorem tv_ar_le (t : Nat) : tv_ar t ≤ 2 := by
  unfold tv_ar
  (repeat' split) <;> omega
theorem tv_shlt {a b : Nat} (ha : a < 256) (hb : b < 16) : a * 2 ^ b < 2 ^ 32 := by
  have h1 : 2 ^ b ≤ 2 ^ 15 := Nat.pow_le_pow_right (by decide) (by omega)
  have h2 : a * 2 ^ b ≤ 255 * 2 ^ 15 := Nat.mul_le_mul (by omega) h1
  omega
theorem tv_bit {v y : Nat} : (v / 2 ^ y) &&& 1 ≠ 0 ↔ v.testBit y = true := by
  rw [Nat.testBit_eq_decide_div_mod_eq, Nat.and_one_is_mod, decide_eq_true_iff]
  omega
theorem tv_bit0 {v y : Nat} : (v / 2 ^ y) &&& 1 = 0 ↔ v.testBit y = false := by
  rw [Nat.testBit_eq_decide_div_mod_eq, Nat.and_one_is_mod, decide_eq_false_iff_not]
  omega
def tv_bnL (lg v : Nat) : Nat → Nat
  | 0 => 0
  | x + 1 => if (v / 2 ^ tv_not lg x) &&& 1 = 0 then tv_bnL lg v x else tv_bnL lg v x ||| (1 * 2 ^ x)
def tv_bn (lg v : Nat) : Nat := tv_bnL lg v 3
def tv_ptL (lg t x v : Nat) : Nat → Nat
  | 0 => 0
  | y + 1 => if (v / 2 ^ tv_app lg t x y) &&& 1 = 0 then tv_ptL lg t x v y else tv_ptL lg t x v y ||| (1 * 2 ^ y)
def tv_pn (lg t x v : Nat) : Nat := tv_ptL lg t x v 3
theorem tv_bn_bit : ∀ lg, lg < 3 → ∀ v, v < 8 → (tv_bn lg v < 8 ∧ ∀ x, x < 3 → (tv_bn lg v).testBit x = v.testBit (tv_not lg x)) := by decide +kernel
theorem tv_pn_bit : ∀ lg, lg < 3 → ∀ t, t < 4 → ∀ x, x < 3 → ∀ v, v < 8 → (tv_pn lg t x v < 8 ∧ ∀ y, y < 3 → (tv_pn lg t x v).testBit y = v.testBit (tv_app lg t x y)) := by decide +kernel
theorem tv_bnL_lt : ∀ lg, lg < 3 → ∀ v, v < 8 → ∀ x, x < 4 → tv_bnL lg v x < 8 := by decide +kernel
theorem tv_ptL_lt : ∀ lg, lg < 3 → ∀ t, t < 4 → ∀ x, x < 3 → ∀ v, v < 8 → ∀ y, y < 4 → tv_ptL lg t x v y < 8 := by decide +kernel
theorem tv_set_ne : ∀ v, v < 8 → v ≠ 0 → ∃ x, x < 3 ∧ v.testBit x = true := by decide +kernel
theorem tv_set_0 : ∀ v, v < 8 → v = 0 → ∀ x, x < 3 → v.testBit x = false := by decide +kernel
theorem tv_one_bit : ∀ x, x < 3 → ∀ y, y < 3 → ((1 * 2 ^ x).testBit y = true ↔ y = x) := by decide +kernel
theorem tv_and_lt : ∀ u, u < 8 → ∀ v, v < 8 → u &&& v < 8 := by decide +kernel
theorem tv_set_ext : ∀ u, u < 8 → ∀ v, v < 8 → (∀ x, x < 3 → u.testBit x = v.testBit x) → u = v := by decide +kernel
/-! PURE: a formula's tokens t on the cells up to the end e: roots and values of the pieces behind a cell -/
def tv_ps (t : Nat → Nat) (e : Nat) : Nat → List Nat
  | 0 => []
  | j + 1 => (e - (j + 1)) :: (tv_ps t e j).drop (tv_ar (t (e - (j + 1))))
def tv_v1 (lg : Nat) (a : Nat → Nat) (tk : Nat) (l : List Nat) : Nat := if 4 ≤ tk then a (tk - 4) else if tk = 0 then tv_not lg (l.getD 0 0) else tv_app lg tk (l.getD 0 0) (l.getD 1 0)
def tv_vs (t : Nat → Nat) (e lg : Nat) (a : Nat → Nat) : Nat → List Nat
  | 0 => []
  | j + 1 => tv_v1 lg a (t (e - (j + 1))) (tv_vs t e lg a j) :: (tv_vs t e lg a j).drop (tv_ar (t (e - (j + 1))))
def tv_V (t : Nat → Nat) (e lg : Nat) (a : Nat → Nat) (c : Nat) : Nat := (tv_vs t e lg a (e - c)).getD 0 0
/-- how many pieces are still wanted ahead of token k -/
def tv_op (t : Nat → Nat) (b : Nat) : Nat → Nat
  | 0 => 1
  | k + 1 => tv_op t b k + tv_ar (t (b + k)) - 1
def tv_good (t : Nat → Nat) (b n : Nat) : Prop := ∀ k, k < n → 1 ≤ tv_op t b k
theorem tv_ps_len {t : Nat → Nat} {b n : Nat} (hg : tv_good t b n) (hc : tv_op t b n = 0) : ∀ j, j ≤ n → (tv_ps t (b + n) j).length = tv_op t b (n - j) := by
  intro j
  induction j with
  | zero => intro _; simp [tv_ps, hc]
  | succ j ih =>
    intro h
    have ih := ih (by omega)
    have e1 : n - j = (n - (j + 1)) + 1 := by omega
    have e2 : b + n - (j + 1) = b + (n - (j + 1)) := by omega
    have h1 := hg (n - (j + 1)) (by omega)
    rw [e1] at ih
    simp only [tv_op] at ih
    simp only [tv_ps, List.length_cons, List.length_drop, ih, e2]
    omega
theorem tv_ps_suf {t : Nat → Nat} {e : Nat} : ∀ j, j ≤ e → ∀ (i x : Nat), (tv_ps t e j)[i]? = some x → tv_ps t e (e - x) = (tv_ps t e j).drop i ∧ e - j + i ≤ x ∧ x < e := by
  intro j
  induction j with
  | zero => intro _ i x h; simp [tv_ps] at h
  | succ j ih =>
    intro hj i x hx
    cases i with
    | zero =>
      simp only [tv_ps, List.getElem?_cons_zero, Option.some.injEq] at hx
      subst hx
      have e1 : e - (e - (j + 1)) = j + 1 := by omega
      rw [e1]
      exact ⟨rfl, by omega, by omega⟩
    | succ i =>
      simp only [tv_ps, List.getElem?_cons_succ, List.getElem?_drop] at hx
      have h1 := ih (by omega) _ _ hx
      refine ⟨?_, by omega, h1.2.2⟩
      rw [h1.1]
      simp only [tv_ps, List.drop_succ_cons, List.drop_drop]
theorem tv_vs_map {t : Nat → Nat} {e lg : Nat} {a : Nat → Nat} : ∀ j, j ≤ e → tv_vs t e lg a j = (tv_ps t e j).map (tv_V t e lg a) := by
  intro j
  induction j with
  | zero => intro _; rfl
  | succ j ih =>
    intro hj
    have ih := ih (by omega)
    have e1 : e - (e - (j + 1)) = j + 1 := by omega
    have e2 : tv_V t e lg a (e - (j + 1)) = tv_v1 lg a (t (e - (j + 1))) (tv_vs t e lg a j) := by
      unfold tv_V
      rw [e1]
      rfl
    simp only [tv_ps, List.map_cons, List.map_drop, e2, ← ih]
    rfl
theorem tv_V_rec {t : Nat → Nat} {e lg c : Nat} {a : Nat → Nat} (hc : c < e) : tv_V t e lg a c = tv_v1 lg a (t c) ((tv_ps t e (e - c - 1)).map (tv_V t e lg a)) := by
  have e1 : e - c = (e - c - 1) + 1 := by omega
  have e2 : e - (e - c - 1 + 1) = c := by omega
  rw [← tv_vs_map (e - c - 1) (by omega)]
  conv => lhs; unfold tv_V; rw [e1]
  simp only [tv_vs, e2, List.getD_cons_zero]
theorem tv_ps_hd {t : Nat → Nat} {e j : Nat} (h : 0 < j) : (tv_ps t e j)[0]? = some (e - j) := by
  obtain ⟨i, rfl⟩ : ∃ i, j = i + 1 := ⟨j - 1, by omega⟩
  rfl
/-- the size of the piece at c -/
def tv_sz (t : Nat → Nat) (e c : Nat) : Nat := (tv_ps t e (e - c)).getD 1 e - c
theorem tv_ps_1 {t : Nat → Nat} {e c i : Nat} (hc : c < e) (h : 0 < i) : c + i ≤ (tv_ps t e (e - c)).getD i (e + 0) ∨ (tv_ps t e (e - c)).getD i (e + 0) = e := by
  rw [List.getD_eq_getElem?_getD]
  cases hx : (tv_ps t e (e - c))[i]? with
  | none => right; rfl
  | some x =>
    left
    have h1 := tv_ps_suf (e - c) (by omega) i x hx
    simp only [Option.getD_some]
    omega
theorem tv_V_lt {t : Nat → Nat} {e lg : Nat} {a : Nat → Nat} (ha : ∀ l, l < 4 → a l < 3) (ht : ∀ c, c < e → t c < 8) : ∀ c, c < e → tv_V t e lg a c < 3 := by
  have hl : ∀ j, j ≤ e → ∀ v ∈ tv_vs t e lg a j, v < 3 := by
    intro j
    induction j with
    | zero => intro _ v hv; simp [tv_vs] at hv
    | succ j ih =>
      intro hj v hv
      have ih := ih (by omega)
      have hd : ∀ i, (tv_vs t e lg a j).getD i 0 ≤ 2 := by
        intro i
        rw [List.getD_eq_getElem?_getD]
        cases hx : (tv_vs t e lg a j)[i]? with
        | none => simp
        | some x =>
          have := ih x (List.mem_of_getElem? hx)
          simp only [Option.getD_some]
          omega
      simp only [tv_vs] at hv
      rcases List.mem_cons.mp hv with h1 | h1
      · rw [h1]
        have h8 := ht (e - (j + 1)) (by omega)
        unfold tv_v1
        split
        · exact ha _ (by omega)
        · split
          · have := tv_not_le lg ((tv_vs t e lg a j).getD 0 0); omega
          · have := tv_app_le (lg := lg) (t := t (e - (j + 1))) (hd 0) (hd 1); omega
      · exact ih v (List.mem_of_mem_drop h1)
  intro c hc
  unfold tv_V
  have e1 : e - c = (e - c - 1) + 1 := by omega
  have h1 := hl (e - c) (by omega)
  rw [e1] at h1 ⊢
  exact h1 _ (by simp [tv_vs])
/-- what a piece is made of, in a whole formula -/
theorem tv_piece {t : Nat → Nat} {b n lg : Nat} (hg : tv_good t b n) (hc : tv_op t b n = 0) {c : Nat} (hb : b ≤ c) (he : c < b + n) :
    1 ≤ tv_sz t (b + n) c ∧
    (t c = 0 → c + 1 < b + n ∧ tv_sz t (b + n) c = tv_sz t (b + n) (c + 1) + 1 ∧ ∀ a, tv_V t (b + n) lg a c = tv_not lg (tv_V t (b + n) lg a (c + 1))) ∧
    (0 < t c → t c < 4 → ∃ s, (tv_ps t (b + n) (b + n - c - 1))[1]? = some s ∧ c + 1 < b + n ∧ c < s ∧ s < b + n ∧ tv_sz t (b + n) c = tv_sz t (b + n) (c + 1) + tv_sz t (b + n) s + 1 ∧ ∀ a, tv_V t (b + n) lg a c = tv_app lg (t c) (tv_V t (b + n) lg a (c + 1)) (tv_V t (b + n) lg a s)) ∧
    (4 ≤ t c → ∀ a, tv_V t (b + n) lg a c = a (t c - 4)) := by
  have hl := tv_ps_len hg hc (n - (c - b) - 1) (by omega)
  have e0 : n - (n - (c - b) - 1) = (c - b) + 1 := by omega
  have e1 : b + n - c - 1 = n - (c - b) - 1 := by omega
  have e2 : b + (c - b) = c := by omega
  have hk := hg (c - b) (by omega)
  rw [e0] at hl
  simp only [tv_op, e2] at hl
  rw [← e1] at hl
  have e3 : b + n - c = (b + n - c - 1) + 1 := by omega
  have e4 : b + n - (b + n - c - 1 + 1) = c := by omega
  have e5 : b + n - (c + 1) = b + n - c - 1 := by omega
  have hps : tv_ps t (b + n) (b + n - c) = c :: (tv_ps t (b + n) (b + n - c - 1)).drop (tv_ar (t c)) := by
    rw [e3]
    simp only [tv_ps, e4]
    rfl
  have hsz1 : 1 ≤ tv_sz t (b + n) c := by
    unfold tv_sz
    have := tv_ps_1 (t := t) (i := 1) he (by omega)
    simp only [Nat.add_zero] at this
    omega
  refine ⟨hsz1, ?_, ?_, ?_⟩
  · intro h0
    have ha : tv_ar (t c) = 1 := by simp [tv_ar, h0]
    rw [ha] at hl hps
    have h1 : c + 1 < b + n := by
      rcases Nat.lt_or_ge (c + 1) (b + n) with h | h
      · exact h
      · have : b + n - c - 1 = 0 := by omega
        rw [this] at hl
        simp only [tv_ps, List.length_nil] at hl
        omega
    have hh := tv_ps_hd (t := t) (e := b + n) (j := b + n - c - 1) (by omega)
    have e6 : b + n - (b + n - c - 1) = c + 1 := by omega
    rw [e6] at hh
    refine ⟨h1, ?_, ?_⟩
    · have h2 := tv_ps_1 (t := t) (i := 1) h1 (by omega)
      simp only [Nat.add_zero] at h2
      unfold tv_sz
      rw [hps, e5] at *
      simp only [List.getD_eq_getElem?_getD, List.getElem?_cons_succ, List.getElem?_drop, Nat.reduceAdd, Nat.add_zero] at h2 ⊢
      omega
    · intro a
      rw [tv_V_rec he]
      simp only [tv_v1, h0, List.getD_eq_getElem?_getD, List.getElem?_map, hh]
      simp
  · intro h0 h4
    have ha : tv_ar (t c) = 2 := by
      unfold tv_ar
      rw [if_neg (by omega), if_pos h4]
    rw [ha] at hl hps
    have hlt : 1 < (tv_ps t (b + n) (b + n - c - 1)).length := by omega
    obtain ⟨s, hs⟩ : ∃ s, (tv_ps t (b + n) (b + n - c - 1))[1]? = some s := ⟨_, List.getElem?_eq_getElem hlt⟩
    have h1 : c + 1 < b + n := by
      rcases Nat.lt_or_ge (c + 1) (b + n) with h | h
      · exact h
      · have : b + n - c - 1 = 0 := by omega
        rw [this] at hl
        simp only [tv_ps, List.length_nil] at hl
        omega
    have hh := tv_ps_hd (t := t) (e := b + n) (j := b + n - c - 1) (by omega)
    have e6 : b + n - (b + n - c - 1) = c + 1 := by omega
    rw [e6] at hh
    have hsuf := tv_ps_suf (b + n - c - 1) (by omega) 1 s hs
    refine ⟨s, hs, h1, by omega, by omega, ?_, ?_⟩
    · have h2 := tv_ps_1 (t := t) (c := s) (i := 1) (show s < b + n by omega) (by omega)
      simp only [Nat.add_zero] at h2
      unfold tv_sz
      rw [hsuf.1] at h2 ⊢
      rw [hps, e5]
      simp only [List.getD_eq_getElem?_getD, List.getElem?_cons_succ, List.getElem?_drop, hs, Nat.reduceAdd, Nat.add_zero, Option.getD_some] at h2 ⊢
      omega
    · intro a
      rw [tv_V_rec he]
      unfold tv_v1
      rw [if_neg (by omega), if_neg (by omega)]
      simp only [List.getD_eq_getElem?_getD, List.getElem?_map, hh, hs]
      simp
  · intro h4 a
    rw [tv_V_rec he]
    simp [tv_v1, h4]
end
section
set_option maxRecDepth 100000
/-! PURE: what the methods do to the memory, and reading a formula -/
def tv_dem (σ : tv_M) (c v : Nat) : tv_M := if σ 9 0 < 32 then tv_st (tv_st (tv_st σ 7 (σ 9 0) c) 8 (σ 9 0) v) 9 0 (σ 9 0 + 1) else σ
def tv_br (σ : tv_M) (lv : Nat) : tv_M := tv_st (tv_st (tv_st (tv_st (tv_st (tv_st (tv_st σ 12 lv (σ 9 0)) 13 lv (σ 10 0)) 15 lv 0) 14 (lv * 4 + 0) (σ 11 0)) 14 (lv * 4 + 1) (σ 11 1)) 14 (lv * 4 + 2) (σ 11 2)) 14 (lv * 4 + 3) (σ 11 3)
def tv_rs (σ : tv_M) (lv : Nat) : tv_M := tv_st (tv_st (tv_st (tv_st (tv_st (tv_st σ 9 0 (σ 12 lv)) 10 0 (σ 13 lv)) 11 0 (σ 14 (lv * 4 + 0))) 11 1 (σ 14 (lv * 4 + 1))) 11 2 (σ 14 (lv * 4 + 2))) 11 3 (σ 14 (lv * 4 + 3))
def tv_ask (σ : tv_M) (f o : Nat) : tv_M := tv_st (tv_st (tv_st (tv_st (tv_st (tv_st σ 16 0 f) 17 0 o) 18 0 7) 18 1 7) 18 2 7) 18 3 7
def tv_atA (σ : tv_M) (c : Nat) : tv_M := if c = σ 4 (σ 6 0 - 1) + 1 then σ else tv_st σ 3 (σ 4 (σ 6 0 - 1)) c
def tv_att (σ : tv_M) (c : Nat) : tv_M := if σ 5 (σ 6 0 - 1) - 1 = 0 then tv_st (tv_st (tv_atA σ c) 5 (σ 6 0 - 1) (σ 5 (σ 6 0 - 1) - 1)) 6 0 (σ 6 0 - 1) else tv_st (tv_atA σ c) 5 (σ 6 0 - 1) (σ 5 (σ 6 0 - 1) - 1)
def tv_psh (τ : tv_M) (c : Nat) : tv_M := if tv_ar (τ 1 c) = 0 then τ else tv_st (tv_st (tv_st τ 4 (τ 6 0) c) 5 (τ 6 0) (tv_ar (τ 1 c))) 6 0 (τ 6 0 + 1)
def tv_rd1 (τ : tv_M) (c : Nat) : tv_M := tv_psh (if τ 6 0 = 0 then τ else tv_att τ c) c
def tv_rd (σ : tv_M) (f : Nat) : Nat → tv_M
  | 0 => tv_st σ 6 0 0
  | k + 1 => tv_rd1 (tv_rd σ f k) (f * 9 + k)
theorem tv_att_facts {τ : tv_M} {c m : Nat} (h : τ 6 0 = m + 1) :
    tv_att τ c 6 0 = (if τ 5 m - 1 = 0 then m else m + 1) ∧ (∀ q, q ≠ 3 → q ≠ 5 → q ≠ 6 → tv_att τ c q = τ q) ∧ (∀ i, tv_att τ c 5 i = if i = m then τ 5 m - 1 else τ 5 i) ∧ (∀ x, tv_att τ c 3 x = if x = τ 4 m ∧ c ≠ τ 4 m + 1 then c else τ 3 x) := by
  have e : τ 6 0 - 1 = m := by omega
  unfold tv_att tv_atA
  rw [e]
  by_cases h1 : τ 5 m - 1 = 0 <;> by_cases h2 : c = τ 4 m + 1
  all_goals
    simp only [h1, h2, if_true, if_false, not_true, not_false_eq_true, and_false, and_true, ne_eq]
    refine ⟨?_, ?_, ?_, ?_⟩
    · simp [tv_st, h]
    · intro q q3 q5 q6
      funext j
      simp [tv_st, q3, q5, q6]
    · intro i
      simp [tv_st]
    · intro x
      simp [tv_st]
theorem tv_psh_facts {τ : tv_M} {c m : Nat} (h : τ 6 0 = m) :
    tv_psh τ c 6 0 = (if tv_ar (τ 1 c) = 0 then m else m + 1) ∧ (∀ q, q ≠ 4 → q ≠ 5 → q ≠ 6 → tv_psh τ c q = τ q) ∧ (∀ i, i < m → tv_psh τ c 4 i = τ 4 i ∧ tv_psh τ c 5 i = τ 5 i) ∧ (tv_ar (τ 1 c) ≠ 0 → tv_psh τ c 4 m = c ∧ tv_psh τ c 5 m = tv_ar (τ 1 c)) := by
  unfold tv_psh
  rw [h]
  by_cases h1 : tv_ar (τ 1 c) = 0
  · simp [h1, h]
  · simp only [h1, if_false]
    refine ⟨?_, ?_, ?_, ?_⟩
    · simp [tv_st]
    · intro q q3 q5 q6
      funext j
      simp [tv_st, q3, q5, q6]
    · intro i hi
      have : i ≠ m := by omega
      simp [tv_st, this]
    · intro _
      simp [tv_st]
/-- the places that still want parts, the last first -/
def tv_sk (τ : tv_M) : Nat → List (Nat × Nat)
  | 0 => []
  | i + 1 => (τ 4 i, τ 5 i) :: tv_sk τ i
def tv_sw : List (Nat × Nat) → Nat
  | [] => 0
  | q :: S => q.2 + tv_sw S
def tv_okS (t : Nat → Nat) (e : Nat) : List (Nat × Nat) → List Nat → Prop
  | [], _ => True
  | q :: S, l => (1 ≤ q.2 ∧ q.2 ≤ tv_ar (t q.1) ∧ ∀ i, i < q.2 → l[i]? = (tv_ps t e (e - q.1 - 1))[tv_ar (t q.1) - q.2 + i]?) ∧ tv_okS t e S (l.drop q.2)
theorem tv_sk_ext {τ ρ : tv_M} : ∀ n, (∀ i, i < n → τ 4 i = ρ 4 i ∧ τ 5 i = ρ 5 i) → tv_sk τ n = tv_sk ρ n := by
  intro n
  induction n with
  | zero => intro _; rfl
  | succ n ih =>
    intro h
    have h1 := h n (by omega)
    simp only [tv_sk, h1.1, h1.2, ih (fun i hi => h i (by omega))]
def tv_RI (σ : tv_M) (f : Nat) (τ : tv_M) (k : Nat) : Prop :=
  τ 6 0 ≤ k ∧ (∀ i, i < τ 6 0 → f * 9 ≤ τ 4 i ∧ τ 4 i < f * 9 + k ∧ 1 ≤ τ 5 i ∧ τ 5 i ≤ 2) ∧ (∀ q, q < 3 ∨ 6 < q → τ q = σ q) ∧ (∀ c, c < f * 9 ∨ f * 9 + 9 ≤ c → τ 3 c = σ 3 c) ∧
  tv_okS (σ 1) (f * 9 + σ 2 f) (tv_sk τ (τ 6 0)) (tv_ps (σ 1) (f * 9 + σ 2 f) (σ 2 f - k)) ∧ (k = 0 → τ 6 0 = 0) ∧ (0 < k → tv_sw (tv_sk τ (τ 6 0)) = tv_op (σ 1) (f * 9) k) ∧
  (∀ c, f * 9 ≤ c → c < f * 9 + k → 0 < σ 1 c → σ 1 c < 4 → (∃ w, (c, w) ∈ tv_sk τ (τ 6 0)) ∨ (tv_ps (σ 1) (f * 9 + σ 2 f) (f * 9 + σ 2 f - c - 1))[1]? = some (τ 3 c)) ∧ (∀ c, τ 3 c < 18 ∨ τ 3 c = σ 3 c)
theorem tv_rd_0 (σ : tv_M) (f : Nat) : tv_RI σ f (tv_rd σ f 0) 0 := by
  have h0 : tv_rd σ f 0 6 0 = 0 := by simp [tv_rd, tv_st]
  refine ⟨by omega, fun i hi => by omega, ?_, ?_, ?_, fun _ => h0, fun h => by omega, fun c h1 h2 => by omega, ?_⟩
  · intro q hq
    funext j
    simp only [tv_rd, tv_st]
    rw [if_neg (by omega)]
  · intro c _
    simp [tv_rd, tv_st]
  · rw [h0]
    trivial
  · intro c
    right
    simp [tv_rd, tv_st]
/-- behind the attaching: the list of roots without its first -/
def tv_RJ (σ : tv_M) (f : Nat) (τ : tv_M) (k : Nat) : Prop :=
  τ 6 0 ≤ k ∧ (∀ i, i < τ 6 0 → f * 9 ≤ τ 4 i ∧ τ 4 i < f * 9 + k ∧ 1 ≤ τ 5 i ∧ τ 5 i ≤ 2) ∧ (∀ q, q < 3 ∨ 6 < q → τ q = σ q) ∧ (∀ c, c < f * 9 ∨ f * 9 + 9 ≤ c → τ 3 c = σ 3 c) ∧
  tv_okS (σ 1) (f * 9 + σ 2 f) (tv_sk τ (τ 6 0)) ((tv_ps (σ 1) (f * 9 + σ 2 f) (σ 2 f - k)).drop 1) ∧ tv_sw (tv_sk τ (τ 6 0)) + 1 = tv_op (σ 1) (f * 9) k ∧
  (∀ c, f * 9 ≤ c → c < f * 9 + k → 0 < σ 1 c → σ 1 c < 4 → (∃ w, (c, w) ∈ tv_sk τ (τ 6 0)) ∨ (tv_ps (σ 1) (f * 9 + σ 2 f) (f * 9 + σ 2 f - c - 1))[1]? = some (τ 3 c)) ∧ (∀ c, τ 3 c < 18 ∨ τ 3 c = σ 3 c)
theorem tv_rd_att {σ τ : tv_M} {f k : Nat} (hf : f < 2) (hn : σ 2 f ≤ 9) (hk : k < σ 2 f) (hg : tv_good (σ 1) (f * 9) (σ 2 f)) (h : tv_RI σ f τ k) : tv_RJ σ f (if τ 6 0 = 0 then τ else tv_att τ (f * 9 + k)) k := by
  obtain ⟨h1, h2, h3, h4, h5, h6, h7, h8, h9⟩ := h
  by_cases hz : τ 6 0 = 0
  · rw [if_pos hz]
    have hk0 : k = 0 := by
      rcases Nat.eq_zero_or_pos k with h | h
      · exact h
      · have e1 := h7 h
        have e2 := hg k hk
        rw [hz] at e1
        simp only [tv_sk, tv_sw] at e1
        omega
    subst hk0
    refine ⟨h1, h2, h3, h4, ?_, ?_, h8, h9⟩
    · rw [hz]; trivial
    · rw [hz]; rfl
  · rw [if_neg hz]
    obtain ⟨m, hm⟩ : ∃ m, τ 6 0 = m + 1 := ⟨τ 6 0 - 1, by omega⟩
    have hk0 : 0 < k := by
      rcases Nat.eq_zero_or_pos k with h | h
      · exact absurd (h6 h) hz
      · exact h
    have hsw := h7 hk0
    have hw := h2 m (by omega)
    obtain ⟨a1, a2, a3, a4⟩ := tv_att_facts (c := f * 9 + k) hm
    have a34 := a2 4 (by decide) (by decide) (by decide)
    rw [hm] at h5 hsw
    simp only [tv_sk, tv_okS, tv_sw] at h5 hsw
    obtain ⟨⟨b1, b2, b3⟩, b4⟩ := h5
    -- the first root is the cell at hand
    have hroot := tv_ps_hd (t := σ 1) (e := f * 9 + σ 2 f) (j := σ 2 f - k) (by omega)
    have e0 : f * 9 + σ 2 f - (σ 2 f - k) = f * 9 + k := by omega
    rw [e0] at hroot
    have hb0 := b3 0 (by omega)
    rw [hroot] at hb0
    have hsub : ∀ i, i < m → tv_att τ (f * 9 + k) 4 i = τ 4 i ∧ tv_att τ (f * 9 + k) 5 i = τ 5 i := by
      intro i hi
      refine ⟨by rw [a34], ?_⟩
      rw [a3 i, if_neg (by omega)]
    have hskm : tv_sk (tv_att τ (f * 9 + k)) m = tv_sk τ m := tv_sk_ext m hsub
    have hsk : tv_sk (tv_att τ (f * 9 + k)) (tv_att τ (f * 9 + k) 6 0) = if τ 5 m - 1 = 0 then tv_sk τ m else (τ 4 m, τ 5 m - 1) :: tv_sk τ m := by
      rw [a1]
      split
      · exact hskm
      · simp only [tv_sk, hskm]
        rw [a3 m, if_pos rfl, a34]
    refine ⟨?_, ?_, ?_, ?_, ?_, ?_, ?_, ?_⟩
    · rw [a1]; split <;> omega
    · intro i hi
      rw [a1] at hi
      by_cases him : i = m
      · subst him
        have : ¬ (τ 5 i - 1 = 0) := by
          intro q
          rw [if_pos q] at hi
          omega
        rw [a34, a3 i, if_pos rfl]
        omega
      · have hi2 : i < m := by
          split at hi <;> omega
        rw [(hsub i hi2).1, (hsub i hi2).2]
        exact h2 i (by omega)
    · intro q hq
      rw [a2 q (by omega) (by omega) (by omega)]
      exact h3 q hq
    · intro c hc
      rw [a4 c, if_neg, h4 c hc]
      rintro ⟨q1, -⟩
      omega
    · rw [hsk]
      split
      next h10 =>
        have e1 : τ 5 m = 1 := by omega
        rw [e1] at b4
        exact b4
      next h10 =>
        simp only [tv_okS]
        refine ⟨⟨by omega, by omega, ?_⟩, ?_⟩
        · intro i hi
          rw [List.getElem?_drop]
          have := b3 (1 + i) (by omega)
          rw [this]
          congr 1
          omega
        · rw [List.drop_drop]
          have e1 : 1 + (τ 5 m - 1) = τ 5 m := by omega
          rw [e1]
          exact b4
    · rw [hsk]
      split
      · omega
      · simp only [tv_sw]
        omega
    · intro c q1 q2 q3 q4
      rcases h8 c q1 q2 q3 q4 with ⟨w, hw1⟩ | hd
      · rw [hm] at hw1
        simp only [tv_sk] at hw1
        rcases List.mem_cons.mp hw1 with e1 | e1
        · have ec : c = τ 4 m := congrArg Prod.fst e1
          rw [hsk]
          split
          next h10 =>
            right
            have e2 : τ 5 m = 1 := by omega
            have har : tv_ar (σ 1 c) = 2 := by
              unfold tv_ar
              rw [if_neg (by omega), if_pos q4]
            rw [← ec, har, e2] at hb0
            have hne : f * 9 + k ≠ c + 1 := by
              intro q
              have hs := tv_ps_suf (t := σ 1) (e := f * 9 + σ 2 f) (f * 9 + σ 2 f - c - 1) (by omega) 1 (f * 9 + k) hb0.symm
              omega
            rw [a4 c, if_pos ⟨ec, by rw [← ec]; exact hne⟩]
            exact hb0.symm
          next h10 =>
            left
            exact ⟨τ 5 m - 1, by rw [ec]; exact List.mem_cons_self⟩
        · left
          refine ⟨w, ?_⟩
          rw [hsk]
          split
          · exact e1
          · exact List.mem_cons_of_mem _ e1
      · by_cases hcm : c = τ 4 m ∧ f * 9 + k ≠ τ 4 m + 1
        · -- written now: it is on the stack
          have har : tv_ar (σ 1 c) = 2 := by
            unfold tv_ar
            rw [if_neg (by omega), if_pos q4]
          by_cases h10 : τ 5 m - 1 = 0
          · right
            have e2 : τ 5 m = 1 := by omega
            rw [← hcm.1, har, e2] at hb0
            rw [a4 c, if_pos hcm]
            exact hb0.symm
          · left
            refine ⟨τ 5 m - 1, ?_⟩
            rw [hsk, if_neg h10, hcm.1]
            exact List.mem_cons_self
        · right
          rw [a4 c, if_neg hcm]
          exact hd
    · intro c
      rw [a4 c]
      split
      · left; omega
      · exact h9 c
theorem tv_rd_psh {σ τ : tv_M} {f k : Nat} (hf : f < 2) (hn : σ 2 f ≤ 9) (hk : k < σ 2 f) (hg : tv_good (σ 1) (f * 9) (σ 2 f)) (h : tv_RJ σ f τ k) : tv_RI σ f (tv_psh τ (f * 9 + k)) (k + 1) := by
  obtain ⟨h1, h2, h3, h4, h5, h6, h7, h9⟩ := h
  obtain ⟨m, hm⟩ : ∃ m, τ 6 0 = m := ⟨_, rfl⟩
  obtain ⟨a1, a2, a3, a4⟩ := tv_psh_facts (c := f * 9 + k) hm
  have ht : τ 1 = σ 1 := h3 1 (by omega)
  rw [ht] at a1 a4
  rw [hm] at h1 h2 h5 h6 h7
  have hskm : tv_sk (tv_psh τ (f * 9 + k)) m = tv_sk τ m := tv_sk_ext m a3
  have hsk : tv_sk (tv_psh τ (f * 9 + k)) (tv_psh τ (f * 9 + k) 6 0) = if tv_ar (σ 1 (f * 9 + k)) = 0 then tv_sk τ m else (f * 9 + k, tv_ar (σ 1 (f * 9 + k))) :: tv_sk τ m := by
    rw [a1]
    split
    · exact hskm
    next h10 => simp only [tv_sk, hskm, (a4 h10).1, (a4 h10).2]
  have hps : tv_ps (σ 1) (f * 9 + σ 2 f) (σ 2 f - k) = (f * 9 + k) :: (tv_ps (σ 1) (f * 9 + σ 2 f) (σ 2 f - (k + 1))).drop (tv_ar (σ 1 (f * 9 + k))) := by
    have e1 : σ 2 f - k = (σ 2 f - (k + 1)) + 1 := by omega
    have e2 : f * 9 + σ 2 f - (σ 2 f - (k + 1) + 1) = f * 9 + k := by omega
    rw [e1]
    simp only [tv_ps, e2]
  rw [hps] at h5
  simp only [List.drop_succ_cons, List.drop_zero] at h5
  have hle := tv_ar_le (σ 1 (f * 9 + k))
  have a23 := a2 3 (by decide) (by decide) (by decide)
  refine ⟨?_, ?_, ?_, ?_, ?_, fun q => by omega, ?_, ?_, ?_⟩
  · rw [a1]; split <;> omega
  · intro i hi
    rw [a1] at hi
    by_cases him : i = m
    · have h10 : tv_ar (σ 1 (f * 9 + k)) ≠ 0 := by
        intro q
        rw [if_pos q] at hi
        omega
      rw [him, (a4 h10).1, (a4 h10).2]
      omega
    · have hi2 : i < m := by split at hi <;> omega
      rw [(a3 i hi2).1, (a3 i hi2).2]
      have := h2 i hi2
      omega
  · intro q hq
    rw [a2 q (by omega) (by omega) (by omega)]
    exact h3 q hq
  · intro c hc
    rw [a23]
    exact h4 c hc
  · rw [hsk]
    split
    next h10 =>
      rw [h10] at h5
      exact h5
    next h10 =>
      simp only [tv_okS]
      refine ⟨⟨by omega, Nat.le_refl _, ?_⟩, h5⟩
      intro i hi
      rw [Nat.sub_self, Nat.zero_add]
      have e1 : f * 9 + σ 2 f - (f * 9 + k) - 1 = σ 2 f - (k + 1) := by omega
      rw [e1]
  · intro _
    have e1 : tv_op (σ 1) (f * 9) (k + 1) = tv_op (σ 1) (f * 9) k + tv_ar (σ 1 (f * 9 + k)) - 1 := rfl
    rw [e1, ← h6, hsk]
    split
    · omega
    · simp only [tv_sw]
      omega
  · intro c q1 q2 q3 q4
    by_cases hck : c = f * 9 + k
    · left
      have h10 : tv_ar (σ 1 (f * 9 + k)) ≠ 0 := by
        rw [← hck]
        unfold tv_ar
        rw [if_neg (by omega), if_pos q4]
        decide
      rw [hsk, if_neg h10, hck]
      exact ⟨_, List.mem_cons_self⟩
    · rcases h7 c q1 (by omega) q3 q4 with ⟨w, hw⟩ | hd
      · left
        refine ⟨w, ?_⟩
        rw [hsk]
        split
        · exact hw
        · exact List.mem_cons_of_mem _ hw
      · right
        rw [a23]
        exact hd
  · intro c
    rw [a23]
    exact h9 c
theorem tv_rd_inv {σ : tv_M} {f : Nat} (hf : f < 2) (hn : σ 2 f ≤ 9) (hg : tv_good (σ 1) (f * 9) (σ 2 f)) : ∀ k, k ≤ σ 2 f → tv_RI σ f (tv_rd σ f k) k := by
  intro k
  induction k with
  | zero => intro _; exact tv_rd_0 σ f
  | succ k ih =>
    intro hk
    exact tv_rd_psh hf hn hk hg (tv_rd_att hf hn hk hg (ih (by omega)))
/-- what reading a formula to its end tells -/
theorem tv_rd_end {σ : tv_M} {f : Nat} (hf : f < 2) (hn : σ 2 f ≤ 9) (hg : tv_good (σ 1) (f * 9) (σ 2 f)) :
    (∀ q, q < 3 ∨ 6 < q → tv_rd σ f (σ 2 f) q = σ q) ∧ (∀ c, c < f * 9 ∨ f * 9 + 9 ≤ c → tv_rd σ f (σ 2 f) 3 c = σ 3 c) ∧ ((0 < σ 2 f ∧ tv_rd σ f (σ 2 f) 6 0 = 0) ↔ tv_op (σ 1) (f * 9) (σ 2 f) = 0) ∧
    (tv_op (σ 1) (f * 9) (σ 2 f) = 0 → ∀ c, f * 9 ≤ c → c < f * 9 + σ 2 f → 0 < σ 1 c → σ 1 c < 4 → (tv_ps (σ 1) (f * 9 + σ 2 f) (f * 9 + σ 2 f - c - 1))[1]? = some (tv_rd σ f (σ 2 f) 3 c)) ∧ (∀ c, tv_rd σ f (σ 2 f) 3 c < 18 ∨ tv_rd σ f (σ 2 f) 3 c = σ 3 c) := by
  obtain ⟨h1, h2, h3, h4, h5, h6, h7, h8, h9⟩ := tv_rd_inv hf hn hg (σ 2 f) (Nat.le_refl _)
  have key : (0 < σ 2 f ∧ tv_rd σ f (σ 2 f) 6 0 = 0) ↔ tv_op (σ 1) (f * 9) (σ 2 f) = 0 := by
    constructor
    · rintro ⟨q1, q2⟩
      rw [← h7 q1, q2]
      rfl
    · intro q
      have hpos : 0 < σ 2 f := by
        rcases Nat.eq_zero_or_pos (σ 2 f) with h | h
        · rw [h] at q
          simp [tv_op] at q
        · exact h
      refine ⟨hpos, ?_⟩
      have e1 := h7 hpos
      rw [q] at e1
      rcases Nat.eq_zero_or_pos (tv_rd σ f (σ 2 f) 6 0) with h | h
      · exact h
      · obtain ⟨m, hm⟩ : ∃ m, tv_rd σ f (σ 2 f) 6 0 = m + 1 := ⟨tv_rd σ f (σ 2 f) 6 0 - 1, by omega⟩
        have := h2 m (by omega)
        rw [hm] at e1
        simp only [tv_sk, tv_sw] at e1
        omega
  refine ⟨h3, h4, key, ?_, h9⟩
  intro q c q1 q2 q3 q4
  rcases h8 c q1 q2 q3 q4 with ⟨w, hw⟩ | hd
  · rw [(key.mpr q).2] at hw
    simp [tv_sk] at hw
  · exact hd
end
section
set_option maxRecDepth 100000
/-! PURE: the search over demands -/
theorem tv_dem_k {σ : tv_M} {c v k : Nat} (h : k < 7 ∨ 9 < k) : tv_dem σ c v k = σ k := by
  unfold tv_dem
  split
  · funext j
    simp only [tv_st]
    rw [if_neg (by omega), if_neg (by omega), if_neg (by omega)]
  · rfl
theorem tv_dem_ok {σ : tv_M} {c v : Nat} (h : σ 9 0 < 32) : tv_dem σ c v 9 0 = σ 9 0 + 1 ∧ tv_dem σ c v 7 (σ 9 0) = c ∧ tv_dem σ c v 8 (σ 9 0) = v ∧ ∀ i, i ≠ σ 9 0 → tv_dem σ c v 7 i = σ 7 i ∧ tv_dem σ c v 8 i = σ 8 i := by
  unfold tv_dem
  rw [if_pos h]
  refine ⟨by simp [tv_st], by simp [tv_st], by simp [tv_st], fun i hi => ⟨by simp [tv_st, hi], by simp [tv_st, hi]⟩⟩
def tv_S (sz d : Nat → Nat) (i : Nat) : Nat → Nat
  | 0 => 0
  | m + 1 => tv_S sz d i m + sz (d (i + m))
theorem tv_S_front {sz d : Nat → Nat} {i : Nat} : ∀ m, tv_S sz d i (m + 1) = sz (d i) + tv_S sz d (i + 1) m := by
  intro m
  induction m with
  | zero => simp [tv_S]
  | succ m ih =>
    have e : i + (m + 1) = i + 1 + m := by omega
    have h1 : tv_S sz d i (m + 1 + 1) = tv_S sz d i (m + 1) + sz (d (i + (m + 1))) := rfl
    have h2 : tv_S sz d (i + 1) (m + 1) = tv_S sz d (i + 1) m + sz (d (i + 1 + m)) := rfl
    rw [h1, h2, ih, e]
    omega
theorem tv_S_ext {sz d d' : Nat → Nat} {i : Nat} : ∀ m, (∀ k, k < m → d (i + k) = d' (i + k)) → tv_S sz d i m = tv_S sz d' i m := by
  intro m
  induction m with
  | zero => intro _; rfl
  | succ m ih =>
    intro h
    simp only [tv_S, h m (by omega), ih (fun k hk => h k (by omega))]
theorem tv_S_ge {sz d : Nat → Nat} {i : Nat} : ∀ m, (∀ k, k < m → 1 ≤ sz (d (i + k))) → m ≤ tv_S sz d i m := by
  intro m
  induction m with
  | zero => intro _; exact Nat.zero_le _
  | succ m ih =>
    intro h
    have h1 := h m (by omega)
    have h2 := ih (fun k hk => h k (by omega))
    simp only [tv_S]
    omega
/-- what the search needs to know of the formulas' cells -/
def tv_F (σ : tv_M) (ok : Nat → Prop) (sz : Nat → Nat) (V : (Nat → Nat) → Nat → Nat) : Prop :=
  σ 0 0 < 3 ∧ ∀ c, ok c → c < 18 ∧ σ 1 c < 8 ∧ 1 ≤ sz c ∧ (∀ a, (∀ l, l < 4 → a l < 3) → V a c < 3) ∧
    (σ 1 c = 0 → ok (c + 1) ∧ sz c = sz (c + 1) + 1 ∧ ∀ a, V a c = tv_not (σ 0 0) (V a (c + 1))) ∧
    (0 < σ 1 c → σ 1 c < 4 → ok (c + 1) ∧ ok (σ 3 c) ∧ sz c = sz (c + 1) + sz (σ 3 c) + 1 ∧ ∀ a, V a c = tv_app (σ 0 0) (σ 1 c) (V a (c + 1)) (V a (σ 3 c))) ∧
    (4 ≤ σ 1 c → ∀ a, V a c = a (σ 1 c - 4))
theorem tv_F_ext {σ τ : tv_M} {ok : Nat → Prop} {sz : Nat → Nat} {V : (Nat → Nat) → Nat → Nat} (h : tv_F σ ok sz V) (h0 : τ 0 = σ 0) (h1 : τ 1 = σ 1) (h3 : τ 3 = σ 3) : tv_F τ ok sz V := by
  unfold tv_F
  rw [h0, h1, h3]
  exact h
def tv_DI (ok : Nat → Prop) (sz : Nat → Nat) (σ : tv_M) (lv : Nat) : Prop :=
  σ 10 0 ≤ σ 9 0 ∧ (∀ i, i < σ 9 0 → ok (σ 7 i) ∧ 0 < σ 8 i ∧ σ 8 i < 8) ∧ (∀ l, l < 4 → 0 < σ 11 l ∧ σ 11 l < 8) ∧ tv_S sz (σ 7) (σ 10 0) (σ 9 0 - σ 10 0) + σ 10 0 ≤ 18 ∧ tv_S sz (σ 7) (σ 10 0) (σ 9 0 - σ 10 0) + 2 * lv ≤ 16 + (σ 9 0 - σ 10 0)
def tv_Sat (V : (Nat → Nat) → Nat → Nat) (a : Nat → Nat) (σ : tv_M) : Prop :=
  (∀ l, l < 4 → a l < 3 ∧ (σ 11 l).testBit (a l) = true) ∧ ∀ i, σ 10 0 ≤ i → i < σ 9 0 → (σ 8 i).testBit (V a (σ 7 i)) = true
theorem tv_DI_18 {σ : tv_M} {ok : Nat → Prop} {sz : Nat → Nat} {V : (Nat → Nat) → Nat → Nat} {lv : Nat} (hF : tv_F σ ok sz V) (h : tv_DI ok sz σ lv) : σ 9 0 ≤ 18 := by
  obtain ⟨h1, h2, h3, h4, h5⟩ := h
  have := tv_S_ge (sz := sz) (d := σ 7) (i := σ 10 0) (σ 9 0 - σ 10 0) (fun k hk => (hF.2 _ (h2 (σ 10 0 + k) (by omega)).1).2.2.1)
  omega
/-- the sum behind one step: the first piece goes, m2 new pieces come -/
theorem tv_S_adv {sz d d' : Nat → Nat} {hd dn : Nat} (h : hd < dn) (he : ∀ i, i < dn → d' i = d i) (x : Nat) (m2 : Nat) (hx : tv_S sz d' dn m2 = x) : tv_S sz d hd (dn - hd) + x = sz (d hd) + tv_S sz d' (hd + 1) (dn + m2 - (hd + 1)) := by
  obtain ⟨q, hq⟩ : ∃ q, dn - hd = q + 1 := ⟨dn - hd - 1, by omega⟩
  rw [hq, tv_S_front]
  have e1 : dn + m2 - (hd + 1) = q + m2 := by omega
  have e2 : hd + 1 + q = dn := by omega
  have e3 : tv_S sz d' (hd + 1) (q + m2) = tv_S sz d' (hd + 1) q + tv_S sz d' dn m2 := by
    clear hx e1
    induction m2 with
    | zero => rfl
    | succ m ih =>
      have a1 : tv_S sz d' (hd + 1) (q + m + 1) = tv_S sz d' (hd + 1) (q + m) + sz (d' (hd + 1 + (q + m))) := rfl
      have a2 : tv_S sz d' dn (m + 1) = tv_S sz d' dn m + sz (d' (dn + m)) := rfl
      have a3 : hd + 1 + (q + m) = dn + m := by omega
      rw [← Nat.add_assoc, a1, a2, ih, a3]
      omega
  rw [e1, e3, hx, tv_S_ext (d := d) (d' := d') q (fun k hk => (he _ (by omega)).symm)]
  omega
section
variable {ok : Nat → Prop} {sz : Nat → Nat} {V : (Nat → Nat) → Nat → Nat} {lv : Nat}
/-- behind σ: only demands, head and left have changed, old demands are as they were -/
def tv_Fr (σ τ : tv_M) : Prop := (∀ q, q < 7 ∨ 11 < q → τ q = σ q) ∧ ∀ i, i < σ 9 0 → τ 7 i = σ 7 i ∧ τ 8 i = σ 8 i
def tv_J (ok : Nat → Prop) (sz : Nat → Nat) (V : (Nat → Nat) → Nat → Nat) (lv : Nat) (σ τ : tv_M) : Prop :=
  tv_Fr σ τ ∧ σ 9 0 ≤ τ 9 0 ∧ tv_DI ok sz τ lv ∧ ∀ a, tv_Sat V a σ ↔ tv_Sat V a τ
def tv_goP (ok : Nat → Prop) (sz : Nat → Nat) (V : (Nat → Nat) → Nat → Nat) (lv : Nat) (σ : tv_M) (z : Int32) (τ : tv_M) : Prop :=
  (z = nI 0 ∧ tv_Fr σ τ ∧ ∀ a, ¬ tv_Sat V a σ) ∨ (z = nI 1 ∧ tv_J ok sz V lv σ τ ∧ τ 9 0 ≤ τ 10 0) ∨ (z = nI 2 ∧ tv_J ok sz V lv σ τ ∧ τ 10 0 < τ 9 0 ∧ 0 < τ 1 (τ 7 (τ 10 0)) ∧ τ 1 (τ 7 (τ 10 0)) < 4)
theorem tv_J_0 {σ : tv_M} (h : tv_DI ok sz σ lv) : tv_J ok sz V lv σ σ := ⟨⟨fun _ _ => rfl, fun _ _ => ⟨rfl, rfl⟩⟩, Nat.le_refl _, h, fun _ => Iff.rfl⟩
/-- a letter at hand: the values left for it -/
theorem tv_go_letter {σ ρ : tv_M} (hF : tv_F ρ ok sz V) (hJ : tv_J ok sz V lv σ ρ) (hh : ρ 10 0 < ρ 9 0) (h4 : 4 ≤ ρ 1 (ρ 7 (ρ 10 0))) :
    (ρ 11 (ρ 1 (ρ 7 (ρ 10 0)) - 4) &&& ρ 8 (ρ 10 0) = 0 → tv_goP ok sz V lv σ (nI 0) (tv_st ρ 11 (ρ 1 (ρ 7 (ρ 10 0)) - 4) (ρ 11 (ρ 1 (ρ 7 (ρ 10 0)) - 4) &&& ρ 8 (ρ 10 0)))) ∧
    (ρ 11 (ρ 1 (ρ 7 (ρ 10 0)) - 4) &&& ρ 8 (ρ 10 0) ≠ 0 → tv_J ok sz V lv σ (tv_st (tv_st ρ 11 (ρ 1 (ρ 7 (ρ 10 0)) - 4) (ρ 11 (ρ 1 (ρ 7 (ρ 10 0)) - 4) &&& ρ 8 (ρ 10 0))) 10 0 (ρ 10 0 + 1))) := by
  obtain ⟨⟨f1, f2⟩, hle, ⟨d1, d2, d3, d4, d5⟩, hS⟩ := hJ
  have hok := d2 (ρ 10 0) hh
  obtain ⟨c18, t8, s1, v3, -, -, cl⟩ := hF.2 _ hok.1
  have cl := cl h4
  have hl4 : ρ 1 (ρ 7 (ρ 10 0)) - 4 < 4 := by omega
  generalize hlt : ρ 1 (ρ 7 (ρ 10 0)) - 4 = lt at *
  have hlv := d3 lt hl4
  -- the satisfied ones lie in both sets
  have hboth : ∀ a, tv_Sat V a ρ → (ρ 11 lt &&& ρ 8 (ρ 10 0)).testBit (a lt) = true := by
    intro a ha
    have q1 := (ha.1 lt hl4).2
    have q2 := ha.2 (ρ 10 0) (Nat.le_refl _) hh
    rw [cl a] at q2
    rw [Nat.testBit_and, q1, q2]
    rfl
  constructor
  · intro hz
    left
    refine ⟨rfl, ⟨?_, ?_⟩, ?_⟩
    · intro q hq
      rw [tv_st_k (by omega)]
      exact f1 q hq
    · intro i hi
      rw [tv_st_k (by decide), tv_st_k (by decide)]
      exact f2 i hi
    · intro a ha
      have := hboth a ((hS a).mp ha)
      rw [hz] at this
      simp at this
  · intro hnz
    have hand : ρ 11 lt &&& ρ 8 (ρ 10 0) < 8 := tv_and_lt _ hlv.2 _ hok.2.2
    obtain ⟨τ, hτ⟩ : ∃ τ, τ = tv_st (tv_st ρ 11 lt (ρ 11 lt &&& ρ 8 (ρ 10 0))) 10 0 (ρ 10 0 + 1) := ⟨_, rfl⟩
    rw [← hτ]
    have t7 : τ 7 = ρ 7 := by rw [hτ]; rw [tv_st_k (by decide), tv_st_k (by decide)]
    have t8' : τ 8 = ρ 8 := by rw [hτ]; rw [tv_st_k (by decide), tv_st_k (by decide)]
    have t9 : τ 9 = ρ 9 := by rw [hτ]; rw [tv_st_k (by decide), tv_st_k (by decide)]
    have t10 : τ 10 0 = ρ 10 0 + 1 := by rw [hτ]; exact tv_st_eq _ _ _ _
    have t11 : ∀ j, τ 11 j = if j = lt then ρ 11 lt &&& ρ 8 (ρ 10 0) else ρ 11 j := by
      intro j
      rw [hτ, tv_st_k (by decide)]
      simp [tv_st]
    have tq : ∀ q, q < 7 ∨ 11 < q → τ q = ρ q := by
      intro q hq
      rw [hτ, tv_st_k (by omega), tv_st_k (by omega)]
    have hadv := tv_S_adv (sz := sz) (d := ρ 7) (d' := ρ 7) hh (fun _ _ => rfl) 0 0 rfl
    simp only [Nat.add_zero] at hadv
    refine ⟨⟨?_, ?_⟩, by rw [t9]; exact hle, ⟨?_, ?_, ?_, ?_, ?_⟩, ?_⟩
    · intro q hq
      rw [tq q hq]
      exact f1 q hq
    · intro i hi
      rw [t7, t8']
      exact f2 i hi
    · rw [t9, t10]; omega
    · rw [t7, t8', t9]; exact d2
    · intro j hj
      rw [t11]
      split
      · exact ⟨Nat.pos_of_ne_zero hnz, hand⟩
      · exact d3 j hj
    · rw [t7, t9, t10]; omega
    · rw [t7, t9, t10]; omega
    · intro a
      rw [hS a]
      constructor
      · intro ha
        refine ⟨?_, ?_⟩
        · intro j hj
          refine ⟨(ha.1 j hj).1, ?_⟩
          rw [t11]
          split
          next e => rw [e]; exact hboth a ha
          next => exact (ha.1 j hj).2
        · rw [t7, t8', t9, t10]
          intro i h1 h2
          exact ha.2 i (by omega) h2
      · intro ha
        have hbit := (ha.1 lt hl4).2
        rw [t11, if_pos rfl, Nat.testBit_and, Bool.and_eq_true] at hbit
        refine ⟨?_, ?_⟩
        · intro j hj
          have q := ha.1 j hj
          rw [t11] at q
          refine ⟨q.1, ?_⟩
          by_cases e : j = lt
          · rw [e]; exact hbit.1
          · rw [if_neg e] at q; exact q.2
        · intro i h1 h2
          rcases Nat.eq_or_lt_of_le h1 with e | e
          · rw [← e, cl a]
            exact hbit.2
          · have q := ha.2 i (by rw [t10]; omega) (by rw [t9]; exact h2)
            rw [t7, t8'] at q
            exact q
/-- a NOT at hand -/
theorem tv_go_not {σ ρ : tv_M} (hF : tv_F ρ ok sz V) (hJ : tv_J ok sz V lv σ ρ) (hh : ρ 10 0 < ρ 9 0) (h0 : ρ 1 (ρ 7 (ρ 10 0)) = 0) :
    (tv_bn (ρ 0 0) (ρ 8 (ρ 10 0)) = 0 → tv_goP ok sz V lv σ (nI 0) ρ) ∧
    (tv_bn (ρ 0 0) (ρ 8 (ρ 10 0)) ≠ 0 → tv_J ok sz V lv σ (tv_st (tv_dem ρ (ρ 7 (ρ 10 0) + 1) (tv_bn (ρ 0 0) (ρ 8 (ρ 10 0)))) 10 0 (ρ 10 0 + 1))) := by
  have h18 := tv_DI_18 hF hJ.2.2.1
  obtain ⟨⟨f1, f2⟩, hle, ⟨d1, d2, d3, d4, d5⟩, hS⟩ := hJ
  have hok := d2 (ρ 10 0) hh
  obtain ⟨c18, t8, s1, v3, cn, -, -⟩ := hF.2 _ hok.1
  obtain ⟨n1, n2, n3⟩ := cn h0
  obtain ⟨b8, bb⟩ := tv_bn_bit (ρ 0 0) hF.1 (ρ 8 (ρ 10 0)) hok.2.2
  have vn := (hF.2 _ n1).2.2.2.1
  generalize hb : tv_bn (ρ 0 0) (ρ 8 (ρ 10 0)) = b at *
  have hbit : ∀ a, (∀ l, l < 4 → a l < 3) → (b.testBit (V a (ρ 7 (ρ 10 0) + 1)) = (ρ 8 (ρ 10 0)).testBit (V a (ρ 7 (ρ 10 0)))) := by
    intro a ha
    rw [bb _ (vn a ha), n3 a]
  constructor
  · intro hz
    left
    refine ⟨rfl, ⟨f1, f2⟩, ?_⟩
    intro a ha
    have ha := (hS a).mp ha
    have q := ha.2 (ρ 10 0) (Nat.le_refl _) hh
    rw [← hbit a (fun l hl => (ha.1 l hl).1), hz] at q
    simp at q
  · intro hnz
    obtain ⟨e1, e2, e3, e4⟩ := tv_dem_ok (σ := ρ) (c := ρ 7 (ρ 10 0) + 1) (v := b) (by omega)
    obtain ⟨τ, hτ⟩ : ∃ τ, τ = tv_st (tv_dem ρ (ρ 7 (ρ 10 0) + 1) b) 10 0 (ρ 10 0 + 1) := ⟨_, rfl⟩
    rw [← hτ]
    have t7 : τ 7 = tv_dem ρ (ρ 7 (ρ 10 0) + 1) b 7 := by rw [hτ]; exact tv_st_k (by decide)
    have t8' : τ 8 = tv_dem ρ (ρ 7 (ρ 10 0) + 1) b 8 := by rw [hτ]; exact tv_st_k (by decide)
    have t9 : τ 9 0 = ρ 9 0 + 1 := by rw [hτ, tv_st_k (by decide)]; exact e1
    have t10 : τ 10 0 = ρ 10 0 + 1 := by rw [hτ]; exact tv_st_eq _ _ _ _
    have t11 : τ 11 = ρ 11 := by rw [hτ, tv_st_k (by decide)]; exact tv_dem_k (by decide)
    have tq : ∀ q, q < 7 ∨ 11 < q → τ q = ρ q := by
      intro q hq
      rw [hτ, tv_st_k (by omega)]
      exact tv_dem_k (by omega)
    have told : ∀ i, i < ρ 9 0 → τ 7 i = ρ 7 i ∧ τ 8 i = ρ 8 i := by
      intro i hi
      rw [t7, t8']
      exact e4 i (by omega)
    have tnew : τ 7 (ρ 9 0) = ρ 7 (ρ 10 0) + 1 ∧ τ 8 (ρ 9 0) = b := by
      rw [t7, t8']
      exact ⟨e2, e3⟩
    have hadv := tv_S_adv (sz := sz) (d := ρ 7) (d' := τ 7) hh (fun i hi => (told i hi).1) (sz (ρ 7 (ρ 10 0) + 1)) 1 (by simp [tv_S, tnew.1])
    refine ⟨⟨?_, ?_⟩, by omega, ⟨?_, ?_, ?_, ?_, ?_⟩, ?_⟩
    · intro q hq
      rw [tq q hq]
      exact f1 q hq
    · intro i hi
      rw [(told i (by omega)).1, (told i (by omega)).2]
      exact f2 i hi
    · omega
    · intro i hi
      rcases Nat.lt_or_ge i (ρ 9 0) with q | q
      · rw [(told i q).1, (told i q).2]
        exact d2 i q
      · have : i = ρ 9 0 := by omega
        rw [this, tnew.1, tnew.2]
        exact ⟨n1, Nat.pos_of_ne_zero hnz, b8⟩
    · rw [t11]; exact d3
    · rw [t9, t10]; omega
    · rw [t9, t10]; omega
    · intro a
      rw [hS a]
      constructor
      · intro ha
        refine ⟨by rw [t11]; exact ha.1, ?_⟩
        rw [t9, t10]
        intro i h1 h2
        rcases Nat.lt_or_ge i (ρ 9 0) with q | q
        · rw [(told i q).1, (told i q).2]
          exact ha.2 i (by omega) q
        · have : i = ρ 9 0 := by omega
          rw [this, tnew.1, tnew.2, hbit a (fun l hl => (ha.1 l hl).1)]
          exact ha.2 _ (Nat.le_refl _) hh
      · intro ha
        have ha1 := ha.1
        rw [t11] at ha1
        refine ⟨ha1, ?_⟩
        intro i h1 h2
        rcases Nat.eq_or_lt_of_le h1 with e | e
        · have q := ha.2 (ρ 9 0) (by omega) (by omega)
          rw [tnew.1, tnew.2, hbit a (fun l hl => (ha1 l hl).1)] at q
          rw [← e]
          exact q
        · have q := ha.2 i (by omega) (by omega)
          rw [(told i h2).1, (told i h2).2] at q
          exact q
end
end
section
set_option maxRecDepth 100000
/-! WALKS of the methods that call none or little -/
theorem tv_n0 : nI 0 = 0 := by decide
theorem tv_n1 : nI 1 = 1 := by decide
theorem tv_n2 : nI 2 = 2 := by decide
theorem tv_n3 : nI 3 = 3 := by decide
theorem tv_n4 : nI 4 = 4 := by decide
theorem tv_n5 : nI 5 = 5 := by decide
theorem tv_n6 : nI 6 = 6 := by decide
theorem tv_n7 : nI 7 = 7 := by decide
theorem tv_n8 : nI 8 = 8 := by decide
theorem tv_n9 : nI 9 = 9 := by decide
set_option maxHeartbeats 4000000 in
theorem tv_cX_isFormula (l : Launch) (D : va_G) (h : Nat → Nat) (d : Nat → ClassId) (σ : tv_M) (f : Int32) : tv_CI l yX1_isFormula cX1_isFormula 1 (some .boolean) ({ frames := 0, cells := 0, slots := 0, locals := 0 } : Room) D (tv_tX d) (tv_wX h d) [.int f] σ (fun z τ => z = (if f = 0 ∨ f = 1 then 1 else 0) ∧ τ = σ) := by
  refine tv_inZ (own := RX1) (by decide) rfl (by simp [Value.category]) (Nat.le_of_ble_eq_true rfl) ?_
  intro G hG hret
  refine tv_iload_n hG dX1_isFormula_0 rfl rfl ?_
  refine tv_zif_eq (tgt := 9) hG dX1_isFormula_1 (by decide) (fun c1 => ?_) (fun c1 => ?_)
  · refine tv_iconst (x := nI 1) hG dX1_isFormula_9 rfl ?_
    refine tv_goto (tgt := 14) hG dX1_isFormula_10 (by decide) ?_
    exact hret _ _ _ _ dX1_isFormula_14 (by decide) ⟨by simp only [tv_n0, tv_n1] at *; simp_all, rfl⟩
  · refine tv_iload_n hG dX1_isFormula_4 rfl rfl ?_
    refine tv_iconst (x := nI 1) hG dX1_isFormula_5 rfl ?_
    refine tv_zicmp_ne (tgt := 13) hG dX1_isFormula_6 (by decide) (fun c2 => ?_) (fun c2 => ?_)
    · refine tv_iconst (x := nI 0) hG dX1_isFormula_13 rfl ?_
      exact hret _ _ _ _ dX1_isFormula_14 (by decide) ⟨by simp only [tv_n0, tv_n1] at *; simp_all, rfl⟩
    · refine tv_iconst (x := nI 1) hG dX1_isFormula_9 rfl ?_
      refine tv_goto (tgt := 14) hG dX1_isFormula_10 (by decide) ?_
      exact hret _ _ _ _ dX1_isFormula_14 (by decide) ⟨by simp only [tv_n0, tv_n1] at *; simp_all, rfl⟩
set_option maxHeartbeats 4000000 in
theorem tv_cX_wants (l : Launch) (D : va_G) (h : Nat → Nat) (d : Nat → ClassId) (σ : tv_M) (t : Nat) (ht : t < 8) : tv_CI l yX1_wants cX1_wants 1 (some .int) ({ frames := 0, cells := 0, slots := 0, locals := 0 } : Room) D (tv_tX d) (tv_wX h d) [.int (nI t)] σ (fun z τ => z = nI (tv_ar t) ∧ τ = σ) := by
  refine tv_inI (own := RX1) (by decide) rfl (by simp [Value.category]) (Nat.le_of_ble_eq_true rfl) ?_
  intro G hG hret
  refine tv_iload_n hG dX1_wants_0 rfl rfl ?_
  refine tv_if_ne (tgt := 6) hG dX1_wants_1 (by decide) (by omega) (fun c1 => ?_) (fun c1 => ?_)
  · refine tv_iload_n hG dX1_wants_6 rfl rfl ?_
    refine tv_iconst (x := nI 4) hG dX1_wants_7 rfl ?_
    refine tv_icmp_ge (tgt := 15) hG dX1_wants_8 (by decide) (by omega) (by omega) (fun c2 => ?_) (fun c2 => ?_)
    · refine tv_iconst (x := nI 0) hG dX1_wants_15 rfl ?_
      exact hret _ _ _ _ dX1_wants_16 ⟨congrArg nI (by unfold tv_ar; (repeat' split) <;> omega), rfl⟩
    · refine tv_iconst (x := nI 2) hG dX1_wants_11 rfl ?_
      refine tv_goto (tgt := 16) hG dX1_wants_12 (by decide) ?_
      exact hret _ _ _ _ dX1_wants_16 ⟨congrArg nI (by unfold tv_ar; (repeat' split) <;> omega), rfl⟩
  · refine tv_iconst (x := nI 1) hG dX1_wants_4 rfl ?_
    exact hret _ _ _ _ dX1_wants_5 ⟨congrArg nI (by unfold tv_ar; (repeat' split) <;> omega), rfl⟩
set_option maxHeartbeats 4000000 in
theorem tv_cX_isValue (l : Launch) (D : va_G) (h : Nat → Nat) (d : Nat → ClassId) (σ : tv_M) (v : Int32) : tv_CI l yX1_isValue cX1_isValue 1 (some .boolean) ({ frames := 0, cells := 0, slots := 0, locals := 0 } : Room) D (tv_tX d) (tv_wX h d) [.int v] σ (fun z τ => z = (if ¬ v < 0 ∧ v < 3 then 1 else 0) ∧ τ = σ) := by
  refine tv_inZ (own := RX1) (by decide) rfl (by simp [Value.category]) (Nat.le_of_ble_eq_true rfl) ?_
  intro G hG hret
  refine tv_iload_n hG dX1_isValue_0 rfl rfl ?_
  refine tv_zif_lt (tgt := 13) hG dX1_isValue_1 (by decide) (fun c1 => ?_) (fun c1 => ?_)
  · refine tv_iconst (x := nI 0) hG dX1_isValue_13 rfl ?_
    exact hret _ _ _ _ dX1_isValue_14 (by decide) ⟨by simp only [tv_n0, tv_n1, tv_n3] at *; first | rw [if_pos (by grind)] | rw [if_neg (by grind)], rfl⟩
  · refine tv_iload_n hG dX1_isValue_4 rfl rfl ?_
    refine tv_iconst (x := nI 3) hG dX1_isValue_5 rfl ?_
    refine tv_zicmp_ge (tgt := 13) hG dX1_isValue_6 (by decide) (fun c2 => ?_) (fun c2 => ?_)
    · refine tv_iconst (x := nI 0) hG dX1_isValue_13 rfl ?_
      exact hret _ _ _ _ dX1_isValue_14 (by decide) ⟨by simp only [tv_n0, tv_n1, tv_n3] at *; first | rw [if_pos (by grind)] | rw [if_neg (by grind)], rfl⟩
    · refine tv_iconst (x := nI 1) hG dX1_isValue_9 rfl ?_
      refine tv_goto (tgt := 14) hG dX1_isValue_10 (by decide) ?_
      exact hret _ _ _ _ dX1_isValue_14 (by decide) ⟨by simp only [tv_n0, tv_n1, tv_n3] at *; first | rw [if_pos (by grind)] | rw [if_neg (by grind)], rfl⟩
set_option maxHeartbeats 4000000 in
theorem tv_cX_valueOf (l : Launch) (D : va_G) (h : Nat → Nat) (d : Nat → ClassId) (σ : tv_M) (lt a : Nat) (hlt : lt < 4) (ha : a ≤ 80) : tv_CI l yX1_valueOf cX1_valueOf 4 (some .int) ({ frames := 0, cells := 0, slots := 0, locals := 0 } : Room) D (tv_tX d) (tv_wX h d) [.int (nI lt), .int (nI a)] σ (fun z τ => z = nI (a / 3 ^ lt % 3) ∧ τ = σ) := by
  refine tv_inI (own := RX1) (by decide) rfl (by simp [Value.category]) (Nat.le_of_ble_eq_true rfl) ?_
  intro G hG hret
  refine tv_iload_n hG dX1_valueOf_0 rfl rfl ?_
  refine tv_istore_n (vs1 := [.int (nI lt), .int (nI a), .int (nI a)]) hG dX1_valueOf_1 rfl (by decide) (Nat.le_of_ble_eq_true rfl) rfl ?_
  refine tv_iconst (x := nI 0) hG dX1_valueOf_2 rfl ?_
  refine tv_istore_n (vs1 := [.int (nI lt), .int (nI a), .int (nI a), .int (nI 0)]) hG dX1_valueOf_3 rfl (by decide) (Nat.le_of_ble_eq_true rfl) rfl ?_
  have loop : ∀ (k i rest : Nat), i + k = lt → rest = a / 3 ^ i → rest ≤ 80 → G 4 [.int (nI lt), .int (nI a), .int (nI rest), .int (nI i)] [] σ := by
    intro k
    induction k with
    | zero =>
      intro i rest hi hr hle
      refine tv_iload_n hG dX1_valueOf_4 rfl rfl ?_
      refine tv_iload_n hG dX1_valueOf_5 rfl rfl ?_
      refine tv_icmp_ge (tgt := 19) hG dX1_valueOf_6 (by decide) (by omega) (by omega) (fun _ => ?_) (fun q => by exfalso; omega)
      refine tv_iload_n hG dX1_valueOf_19 rfl rfl ?_
      refine tv_iconst (x := nI 3) hG dX1_valueOf_20 rfl ?_
      refine tv_irem hG dX1_valueOf_21 (by omega) (by omega) (by omega) ?_
      exact hret _ _ _ _ dX1_valueOf_22 ⟨by rw [hr, show i = lt by omega], rfl⟩
    | succ k ih =>
      intro i rest hi hr hle
      refine tv_iload_n hG dX1_valueOf_4 rfl rfl ?_
      refine tv_iload_n hG dX1_valueOf_5 rfl rfl ?_
      refine tv_icmp_ge (tgt := 19) hG dX1_valueOf_6 (by decide) (by omega) (by omega) (fun q => by exfalso; omega) (fun _ => ?_)
      refine tv_iload_n hG dX1_valueOf_9 rfl rfl ?_
      refine tv_iconst (x := nI 3) hG dX1_valueOf_10 rfl ?_
      refine tv_idiv hG dX1_valueOf_11 (by omega) (by omega) (by omega) ?_
      refine tv_istore_n (vs1 := [.int (nI lt), .int (nI a), .int (nI (rest / 3)), .int (nI i)]) hG dX1_valueOf_12 rfl (by decide) (Nat.le_of_ble_eq_true rfl) rfl ?_
      refine tv_iinc (y := nI (i + 1)) (vs1 := [.int (nI lt), .int (nI a), .int (nI (rest / 3)), .int (nI (i + 1))]) hG dX1_valueOf_13 rfl (nI_1 _) (by decide) rfl ?_
      refine tv_goto (tgt := 4) hG dX1_valueOf_16 (by decide) ?_
      exact ih (i + 1) _ (by omega) (by rw [hr, Nat.div_div_eq_div_mul, Nat.pow_succ]) (by omega)
  exact loop lt 0 a (by omega) (by simp) ha
set_option maxHeartbeats 4000000 in
theorem tv_cX_not (l : Launch) (D : va_G) (h : Nat → Nat) (d : Nat → ClassId) (σ : tv_M) (x : Nat) (hx : x ≤ 2) (hlg : σ 0 0 < 3) : tv_CI l yX1_not cX1_not 2 (some .int) ({ frames := 0, cells := 0, slots := 0, locals := 0 } : Room) D (tv_tX d) (tv_wX h d) [.ref (h 0), .int (nI x)] σ (fun z τ => z = nI (tv_not (σ 0 0) x) ∧ τ = σ) := by
  refine tv_inI (own := RX1) (by decide) rfl (by simp [Value.category]) (Nat.le_of_ble_eq_true rfl) ?_
  intro G hG hret
  refine tv_aload_n hG dX1_not_0 rfl rfl ?_
  refine tv_gX_0 (v := σ 0 0) hG rfl dX1_not_1 ?_
  refine tv_iconst (x := nI 2) hG dX1_not_4 rfl ?_
  refine tv_icmp_ne (tgt := 18) hG dX1_not_5 (by decide) (by omega) (by omega) (fun c1 => ?_) (fun c1 => ?_)
  · refine tv_iconst (x := nI 2) hG dX1_not_18 rfl ?_
    refine tv_iload_n hG dX1_not_19 rfl rfl ?_
    refine tv_isub hG dX1_not_20 (by omega) ?_
    exact hret _ _ _ _ dX1_not_21 ⟨by unfold tv_not; simp_all, rfl⟩
  · refine tv_iload_n hG dX1_not_8 rfl rfl ?_
    refine tv_if_ne (tgt := 16) hG dX1_not_9 (by decide) (by omega) (fun c2 => ?_) (fun c2 => ?_)
    · refine tv_iconst (x := nI 0) hG dX1_not_16 rfl ?_
      exact hret _ _ _ _ dX1_not_17 ⟨by unfold tv_not; simp_all, rfl⟩
    · refine tv_iconst (x := nI 2) hG dX1_not_12 rfl ?_
      refine tv_goto (tgt := 17) hG dX1_not_13 (by decide) ?_
      exact hret _ _ _ _ dX1_not_17 ⟨by unfold tv_not; simp_all, rfl⟩
set_option maxHeartbeats 4000000 in
theorem tv_cX_apply (l : Launch) (D : va_G) (h : Nat → Nat) (d : Nat → ClassId) (σ : tv_M) (t x y : Nat) (ht : t < 4) (hx : x ≤ 2) (hy : y ≤ 2) (hlg : σ 0 0 < 3) : tv_CI l yX1_apply cX1_apply 4 (some .int) ({ frames := 0, cells := 0, slots := 0, locals := 0 } : Room) D (tv_tX d) (tv_wX h d) [.ref (h 0), .int (nI t), .int (nI x), .int (nI y)] σ (fun z τ => z = nI (tv_app (σ 0 0) t x y) ∧ τ = σ) := by
  refine tv_inI (own := RX1) (by decide) rfl (by simp [Value.category]) (Nat.le_of_ble_eq_true rfl) ?_
  intro G hG hret
  refine tv_iload_n hG dX1_apply_0 rfl rfl ?_
  refine tv_iconst (x := nI 1) hG dX1_apply_1 rfl ?_
  refine tv_icmp_ne (tgt := 16) hG dX1_apply_2 (by decide) (by omega) (by omega) (fun c1 => ?_) (fun c1 => ?_)
  · refine tv_iload_n hG dX1_apply_16 rfl rfl ?_
    refine tv_iconst (x := nI 2) hG dX1_apply_17 rfl ?_
    refine tv_icmp_ne (tgt := 32) hG dX1_apply_18 (by decide) (by omega) (by omega) (fun c2 => ?_) (fun c2 => ?_)
    · refine tv_aload_n hG dX1_apply_32 rfl rfl ?_
      refine tv_gX_0 (v := σ 0 0) hG rfl dX1_apply_33 ?_
      refine tv_if_ne (tgt := 58) hG dX1_apply_36 (by decide) (by omega) (fun c3 => ?_) (fun c3 => ?_)
      · refine tv_aload_n hG dX1_apply_58 rfl rfl ?_
        refine tv_gX_0 (v := σ 0 0) hG rfl dX1_apply_59 ?_
        refine tv_iconst (x := nI 1) hG dX1_apply_62 rfl ?_
        refine tv_icmp_ne (tgt := 81) hG dX1_apply_63 (by decide) (by omega) (by omega) (fun c4 => ?_) (fun c4 => ?_)
        · refine tv_iload_n hG dX1_apply_81 rfl rfl ?_
          refine tv_iload_n hG dX1_apply_82 rfl rfl ?_
          refine tv_icmp_gt (tgt := 90) hG dX1_apply_83 (by decide) (by omega) (by omega) (fun c5 => ?_) (fun c5 => ?_)
          · refine tv_iload_n hG dX1_apply_90 rfl rfl ?_
            exact hret _ _ _ _ dX1_apply_91 ⟨congrArg nI (by unfold tv_app; (repeat' split) <;> omega), rfl⟩
          · refine tv_iconst (x := nI 2) hG dX1_apply_86 rfl ?_
            refine tv_goto (tgt := 91) hG dX1_apply_87 (by decide) ?_
            exact hret _ _ _ _ dX1_apply_91 ⟨congrArg nI (by unfold tv_app; (repeat' split) <;> omega), rfl⟩
        · refine tv_iconst (x := nI 2) hG dX1_apply_66 rfl ?_
          refine tv_iload_n hG dX1_apply_67 rfl rfl ?_
          refine tv_isub hG dX1_apply_68 (by omega) ?_
          refine tv_iload_n hG dX1_apply_69 rfl rfl ?_
          refine tv_icmp_le (tgt := 79) hG dX1_apply_70 (by decide) (by omega) (by omega) (fun c6 => ?_) (fun c6 => ?_)
          · refine tv_iload_n hG dX1_apply_79 rfl rfl ?_
            exact hret _ _ _ _ dX1_apply_80 ⟨congrArg nI (by unfold tv_app; (repeat' split) <;> omega), rfl⟩
          · refine tv_iconst (x := nI 2) hG dX1_apply_73 rfl ?_
            refine tv_iload_n hG dX1_apply_74 rfl rfl ?_
            refine tv_isub hG dX1_apply_75 (by omega) ?_
            refine tv_goto (tgt := 80) hG dX1_apply_76 (by decide) ?_
            exact hret _ _ _ _ dX1_apply_80 ⟨congrArg nI (by unfold tv_app; (repeat' split) <;> omega), rfl⟩
      · refine tv_iconst (x := nI 2) hG dX1_apply_39 rfl ?_
        refine tv_iload_n hG dX1_apply_40 rfl rfl ?_
        refine tv_isub hG dX1_apply_41 (by omega) ?_
        refine tv_iload_n hG dX1_apply_42 rfl rfl ?_
        refine tv_iadd hG dX1_apply_43 ?_
        refine tv_iconst (x := nI 2) hG dX1_apply_44 rfl ?_
        refine tv_icmp_ge (tgt := 56) hG dX1_apply_45 (by decide) (by omega) (by omega) (fun c7 => ?_) (fun c7 => ?_)
        · refine tv_iconst (x := nI 2) hG dX1_apply_56 rfl ?_
          exact hret _ _ _ _ dX1_apply_57 ⟨congrArg nI (by unfold tv_app; (repeat' split) <;> omega), rfl⟩
        · refine tv_iconst (x := nI 2) hG dX1_apply_48 rfl ?_
          refine tv_iload_n hG dX1_apply_49 rfl rfl ?_
          refine tv_isub hG dX1_apply_50 (by omega) ?_
          refine tv_iload_n hG dX1_apply_51 rfl rfl ?_
          refine tv_iadd hG dX1_apply_52 ?_
          refine tv_goto (tgt := 57) hG dX1_apply_53 (by decide) ?_
          exact hret _ _ _ _ dX1_apply_57 ⟨congrArg nI (by unfold tv_app; (repeat' split) <;> omega), rfl⟩
    · refine tv_iload_n hG dX1_apply_21 rfl rfl ?_
      refine tv_iload_n hG dX1_apply_22 rfl rfl ?_
      refine tv_icmp_le (tgt := 30) hG dX1_apply_23 (by decide) (by omega) (by omega) (fun c8 => ?_) (fun c8 => ?_)
      · refine tv_iload_n hG dX1_apply_30 rfl rfl ?_
        exact hret _ _ _ _ dX1_apply_31 ⟨congrArg nI (by unfold tv_app; (repeat' split) <;> omega), rfl⟩
      · refine tv_iload_n hG dX1_apply_26 rfl rfl ?_
        refine tv_goto (tgt := 31) hG dX1_apply_27 (by decide) ?_
        exact hret _ _ _ _ dX1_apply_31 ⟨congrArg nI (by unfold tv_app; (repeat' split) <;> omega), rfl⟩
  · refine tv_iload_n hG dX1_apply_5 rfl rfl ?_
    refine tv_iload_n hG dX1_apply_6 rfl rfl ?_
    refine tv_icmp_ge (tgt := 14) hG dX1_apply_7 (by decide) (by omega) (by omega) (fun c9 => ?_) (fun c9 => ?_)
    · refine tv_iload_n hG dX1_apply_14 rfl rfl ?_
      exact hret _ _ _ _ dX1_apply_15 ⟨congrArg nI (by unfold tv_app; (repeat' split) <;> omega), rfl⟩
    · refine tv_iload_n hG dX1_apply_10 rfl rfl ?_
      refine tv_goto (tgt := 15) hG dX1_apply_11 (by decide) ?_
      exact hret _ _ _ _ dX1_apply_15 ⟨congrArg nI (by unfold tv_app; (repeat' split) <;> omega), rfl⟩
set_option maxHeartbeats 4000000 in
theorem tv_cX_logic (l : Launch) (D : va_G) (h : Nat → Nat) (d : Nat → ClassId) (σ : tv_M)  : tv_CI l yX1_logic cX1_logic 1 (some .int) ({ frames := 0, cells := 0, slots := 0, locals := 0 } : Room) D (tv_tX d) (tv_wX h d) [.ref (h 0)] σ (fun z τ => z = nI (σ 0 0) ∧ τ = σ) := by
  refine tv_inI (own := RX1) (by decide) rfl (by simp [Value.category]) (Nat.le_of_ble_eq_true rfl) ?_
  intro G hG hret
  refine tv_aload_n hG dX1_logic_0 rfl rfl ?_
  refine tv_gX_0 (v := σ 0 0) hG rfl dX1_logic_1 ?_
  exact hret _ _ _ _ dX1_logic_4 ⟨rfl, rfl⟩
set_option maxHeartbeats 4000000 in
theorem tv_cM_logic (l : Launch) (D : va_G) (h : Nat → Nat) (d : Nat → ClassId) (σ : tv_M)  : tv_CI l yX2_logic cX2_logic 1 (some .int) ({ frames := 0, cells := 0, slots := 0, locals := 0 } : Room) D (tv_tM d) (tv_wM h d) [.ref (h 20)] σ (fun z τ => z = nI (σ 20 0) ∧ τ = σ) := by
  refine tv_inI (own := RX2) (by decide) rfl (by simp [Value.category]) (Nat.le_of_ble_eq_true rfl) ?_
  intro G hG hret
  refine tv_aload_n hG dX2_logic_0 rfl rfl ?_
  refine tv_gM_20 (v := σ 20 0) hG rfl dX2_logic_1 ?_
  exact hret _ _ _ _ dX2_logic_4 ⟨rfl, rfl⟩
set_option maxHeartbeats 4000000 in
theorem tv_cX_setLogic (l : Launch) (D : va_G) (h : Nat → Nat) (d : Nat → ClassId) (σ : tv_M) (g : Int32) : tv_CI l yX1_setLogic cX1_setLogic 2 (some .boolean) ({ frames := 0, cells := 0, slots := 0, locals := 0 } : Room) D (tv_tX d) (tv_wX h d) [.ref (h 0), .int g] σ (fun z τ => ((g < 0 ∨ 2 < g) ∧ z = 0 ∧ τ = σ) ∨ (∃ v, v ≤ 2 ∧ g = nI v ∧ z = 1 ∧ τ = tv_st σ 0 0 v)) := by
  refine tv_inZ (own := RX1) (by decide) rfl (by simp [Value.category]) (Nat.le_of_ble_eq_true rfl) ?_
  intro G hG hret
  refine tv_iload_n hG dX1_setLogic_0 rfl rfl ?_
  refine tv_zif_lt (tgt := 9) hG dX1_setLogic_1 (by decide) (fun c1 => ?_) (fun c1 => ?_)
  · refine tv_iconst (x := nI 0) hG dX1_setLogic_9 rfl ?_
    exact hret _ _ _ _ dX1_setLogic_10 (by decide) (Or.inl ⟨by first | exact Or.inl (by assumption) | exact Or.inr (by rw [← tv_n2]; exact Int32.not_le.mp c2), rfl, rfl⟩)
  · refine tv_iload_n hG dX1_setLogic_4 rfl rfl ?_
    refine tv_iconst (x := nI 2) hG dX1_setLogic_5 rfl ?_
    refine tv_zicmp_le (tgt := 11) hG dX1_setLogic_6 (by decide) (fun c2 => ?_) (fun c2 => ?_)
    · obtain ⟨v, hv, rfl⟩ := nI_of2 (M := 2) (n := 2) rfl c1 (by rw [← tv_n2]; exact c2)
      refine tv_aload_n hG dX1_setLogic_11 rfl rfl ?_
      refine tv_iload_n hG dX1_setLogic_12 rfl rfl ?_
      refine tv_pX_0 hG dX1_setLogic_13 ?_
      refine tv_iconst (x := nI 1) hG dX1_setLogic_16 rfl ?_
      exact hret _ _ _ _ dX1_setLogic_17 (by decide) (Or.inr ⟨v, hv, rfl, rfl, rfl⟩)
    · refine tv_iconst (x := nI 0) hG dX1_setLogic_9 rfl ?_
      exact hret _ _ _ _ dX1_setLogic_10 (by decide) (Or.inl ⟨by first | exact Or.inl (by assumption) | exact Or.inr (by rw [← tv_n2]; exact Int32.not_le.mp c2), rfl, rfl⟩)
set_option maxHeartbeats 4000000 in
theorem tv_cM_setLogic (l : Launch) (D : va_G) (h : Nat → Nat) (d : Nat → ClassId) (σ : tv_M) (g : Int32) : tv_CI l yX2_setLogic cX2_setLogic 2 (some .boolean) ({ frames := 0, cells := 0, slots := 0, locals := 0 } : Room) D (tv_tM d) (tv_wM h d) [.ref (h 20), .int g] σ (fun z τ => ((g < 0 ∨ 2 < g) ∧ z = 0 ∧ τ = σ) ∨ (∃ v, v ≤ 2 ∧ g = nI v ∧ z = 1 ∧ τ = tv_st σ 20 0 v)) := by
  refine tv_inZ (own := RX2) (by decide) rfl (by simp [Value.category]) (Nat.le_of_ble_eq_true rfl) ?_
  intro G hG hret
  refine tv_iload_n hG dX2_setLogic_0 rfl rfl ?_
  refine tv_zif_lt (tgt := 9) hG dX2_setLogic_1 (by decide) (fun c1 => ?_) (fun c1 => ?_)
  · refine tv_iconst (x := nI 0) hG dX2_setLogic_9 rfl ?_
    exact hret _ _ _ _ dX2_setLogic_10 (by decide) (Or.inl ⟨by first | exact Or.inl (by assumption) | exact Or.inr (by rw [← tv_n2]; exact Int32.not_le.mp c2), rfl, rfl⟩)
  · refine tv_iload_n hG dX2_setLogic_4 rfl rfl ?_
    refine tv_iconst (x := nI 2) hG dX2_setLogic_5 rfl ?_
    refine tv_zicmp_le (tgt := 11) hG dX2_setLogic_6 (by decide) (fun c2 => ?_) (fun c2 => ?_)
    · obtain ⟨v, hv, rfl⟩ := nI_of2 (M := 2) (n := 2) rfl c1 (by rw [← tv_n2]; exact c2)
      refine tv_aload_n hG dX2_setLogic_11 rfl rfl ?_
      refine tv_iload_n hG dX2_setLogic_12 rfl rfl ?_
      refine tv_pM_20 hG dX2_setLogic_13 ?_
      refine tv_iconst (x := nI 1) hG dX2_setLogic_16 rfl ?_
      exact hret _ _ _ _ dX2_setLogic_17 (by decide) (Or.inr ⟨v, hv, rfl, rfl, rfl⟩)
    · refine tv_iconst (x := nI 0) hG dX2_setLogic_9 rfl ?_
      exact hret _ _ _ _ dX2_setLogic_10 (by decide) (Or.inl ⟨by first | exact Or.inl (by assumption) | exact Or.inr (by rw [← tv_n2]; exact Int32.not_le.mp c2), rfl, rfl⟩)
set_option maxHeartbeats 4000000 in
theorem tv_cM_letter (l : Launch) (D : va_G) (h : Nat → Nat) (d : Nat → ClassId) (σ : tv_M) (lt a : Nat) (hlt : lt < 4) (ha : a ≤ 80) : tv_CI l yX2_letter cX2_letter 3 (some .int) ({ frames := 0, cells := 0, slots := 0, locals := 0 } : Room) D (tv_tM d) (tv_wM h d) [.ref (h 20), .int (nI lt), .int (nI a)] σ (fun z τ => z = nI (a / 3 ^ lt % 3) ∧ τ = σ) := by
  refine tv_inI (own := RX2) (by decide) rfl (by simp [Value.category]) (Nat.le_of_ble_eq_true rfl) ?_
  intro G hG hret
  refine tv_iload_n hG dX2_letter_0 rfl rfl ?_
  refine tv_if_ne (tgt := 10) hG dX2_letter_1 (by decide) (by omega) (fun c1 => ?_) (fun c1 => ?_)
  · refine tv_iload_n hG dX2_letter_10 rfl rfl ?_
    refine tv_iconst (x := nI 1) hG dX2_letter_11 rfl ?_
    refine tv_icmp_ne (tgt := 23) hG dX2_letter_12 (by decide) (by omega) (by omega) (fun c2 => ?_) (fun c2 => ?_)
    · refine tv_iload_n hG dX2_letter_23 rfl rfl ?_
      refine tv_iconst (x := nI 2) hG dX2_letter_24 rfl ?_
      refine tv_icmp_ne (tgt := 37) hG dX2_letter_25 (by decide) (by omega) (by omega) (fun c3 => ?_) (fun c3 => ?_)
      · refine tv_iload_n hG dX2_letter_37 rfl rfl ?_
        refine tv_bipush (x := nI 27) hG dX2_letter_38 rfl ?_
        refine tv_idiv hG dX2_letter_40 (by omega) (by omega) (by omega) ?_
        exact hret _ _ _ _ dX2_letter_41 ⟨congrArg nI (by first | (subst c1; simp; done) | (subst c2; simp; done) | (subst c3; simp; done) | (have e : lt = 3 := by omega); subst e; simp; omega), rfl⟩
      · refine tv_iload_n hG dX2_letter_28 rfl rfl ?_
        refine tv_bipush (x := nI 9) hG dX2_letter_29 rfl ?_
        refine tv_idiv hG dX2_letter_31 (by omega) (by omega) (by omega) ?_
        refine tv_iconst (x := nI 3) hG dX2_letter_32 rfl ?_
        refine tv_irem hG dX2_letter_33 (by omega) (by omega) (by omega) ?_
        refine tv_goto (tgt := 41) hG dX2_letter_34 (by decide) ?_
        exact hret _ _ _ _ dX2_letter_41 ⟨congrArg nI (by first | (subst c1; simp; done) | (subst c2; simp; done) | (subst c3; simp; done) | (have e : lt = 3 := by omega); subst e; simp; omega), rfl⟩
    · refine tv_iload_n hG dX2_letter_15 rfl rfl ?_
      refine tv_iconst (x := nI 3) hG dX2_letter_16 rfl ?_
      refine tv_idiv hG dX2_letter_17 (by omega) (by omega) (by omega) ?_
      refine tv_iconst (x := nI 3) hG dX2_letter_18 rfl ?_
      refine tv_irem hG dX2_letter_19 (by omega) (by omega) (by omega) ?_
      refine tv_goto (tgt := 41) hG dX2_letter_20 (by decide) ?_
      exact hret _ _ _ _ dX2_letter_41 ⟨congrArg nI (by first | (subst c1; simp; done) | (subst c2; simp; done) | (subst c3; simp; done) | (have e : lt = 3 := by omega); subst e; simp; omega), rfl⟩
  · refine tv_iload_n hG dX2_letter_4 rfl rfl ?_
    refine tv_iconst (x := nI 3) hG dX2_letter_5 rfl ?_
    refine tv_irem hG dX2_letter_6 (by omega) (by omega) (by omega) ?_
    refine tv_goto (tgt := 41) hG dX2_letter_7 (by decide) ?_
    exact hret _ _ _ _ dX2_letter_41 ⟨congrArg nI (by first | (subst c1; simp; done) | (subst c2; simp; done) | (subst c3; simp; done) | (have e : lt = 3 := by omega); subst e; simp; omega), rfl⟩
set_option maxHeartbeats 4000000 in
theorem tv_cM_not (l : Launch) (D : va_G) (h : Nat → Nat) (d : Nat → ClassId) (σ : tv_M) (x : Nat) (hx : x ≤ 2) (hlg : σ 20 0 < 3) : tv_CI l yX2_not cX2_not 2 (some .int) ({ frames := 0, cells := 0, slots := 0, locals := 0 } : Room) D (tv_tM d) (tv_wM h d) [.ref (h 20), .int (nI x)] σ (fun z τ => z = nI (tv_not (σ 20 0) x) ∧ τ = σ) := by
  refine tv_inI (own := RX2) (by decide) rfl (by simp [Value.category]) (Nat.le_of_ble_eq_true rfl) ?_
  intro G hG hret
  refine tv_aload_n hG dX2_not_0 rfl rfl ?_
  refine tv_gM_20 (v := σ 20 0) hG rfl dX2_not_1 ?_
  refine tv_iconst (x := nI 2) hG dX2_not_4 rfl ?_
  refine tv_icmp_ge (tgt := 14) hG dX2_not_5 (by decide) (by omega) (by omega) (fun c1 => ?_) (fun c1 => ?_)
  · refine tv_iload_n hG dX2_not_14 rfl rfl ?_
    refine tv_if_ne (tgt := 22) hG dX2_not_15 (by decide) (by omega) (fun c2 => ?_) (fun c2 => ?_)
    · refine tv_iconst (x := nI 0) hG dX2_not_22 rfl ?_
      exact hret _ _ _ _ dX2_not_23 ⟨congrArg nI (by unfold tv_not; (repeat' split) <;> omega), rfl⟩
    · refine tv_iconst (x := nI 2) hG dX2_not_18 rfl ?_
      refine tv_goto (tgt := 23) hG dX2_not_19 (by decide) ?_
      exact hret _ _ _ _ dX2_not_23 ⟨congrArg nI (by unfold tv_not; (repeat' split) <;> omega), rfl⟩
  · refine tv_iconst (x := nI 2) hG dX2_not_8 rfl ?_
    refine tv_iload_n hG dX2_not_9 rfl rfl ?_
    refine tv_isub hG dX2_not_10 (by omega) ?_
    refine tv_goto (tgt := 23) hG dX2_not_11 (by decide) ?_
    exact hret _ _ _ _ dX2_not_23 ⟨congrArg nI (by unfold tv_not; (repeat' split) <;> omega), rfl⟩
set_option maxHeartbeats 4000000 in
theorem tv_cM_implies (l : Launch) (D : va_G) (h : Nat → Nat) (d : Nat → ClassId) (σ : tv_M) (x y : Nat) (hx : x ≤ 2) (hy : y ≤ 2) (hlg : σ 20 0 < 3) : tv_CI l yX2_implies cX2_implies 3 (some .int) ({ frames := 0, cells := 0, slots := 0, locals := 0 } : Room) D (tv_tM d) (tv_wM h d) [.ref (h 20), .int (nI x), .int (nI y)] σ (fun z τ => z = nI (tv_app (σ 20 0) 3 x y) ∧ τ = σ) := by
  refine tv_inI (own := RX2) (by decide) rfl (by simp [Value.category]) (Nat.le_of_ble_eq_true rfl) ?_
  intro G hG hret
  refine tv_aload_n hG dX2_implies_0 rfl rfl ?_
  refine tv_gM_20 (v := σ 20 0) hG rfl dX2_implies_1 ?_
  refine tv_if_ne (tgt := 26) hG dX2_implies_4 (by decide) (by omega) (fun c1 => ?_) (fun c1 => ?_)
  · refine tv_aload_n hG dX2_implies_26 rfl rfl ?_
    refine tv_gM_20 (v := σ 20 0) hG rfl dX2_implies_27 ?_
    refine tv_iconst (x := nI 1) hG dX2_implies_30 rfl ?_
    refine tv_icmp_ne (tgt := 49) hG dX2_implies_31 (by decide) (by omega) (by omega) (fun c2 => ?_) (fun c2 => ?_)
    · refine tv_iload_n hG dX2_implies_49 rfl rfl ?_
      refine tv_iload_n hG dX2_implies_50 rfl rfl ?_
      refine tv_icmp_gt (tgt := 58) hG dX2_implies_51 (by decide) (by omega) (by omega) (fun c3 => ?_) (fun c3 => ?_)
      · refine tv_iload_n hG dX2_implies_58 rfl rfl ?_
        exact hret _ _ _ _ dX2_implies_59 ⟨congrArg nI (by unfold tv_app; (repeat' split) <;> omega), rfl⟩
      · refine tv_iconst (x := nI 2) hG dX2_implies_54 rfl ?_
        refine tv_goto (tgt := 59) hG dX2_implies_55 (by decide) ?_
        exact hret _ _ _ _ dX2_implies_59 ⟨congrArg nI (by unfold tv_app; (repeat' split) <;> omega), rfl⟩
    · refine tv_iconst (x := nI 2) hG dX2_implies_34 rfl ?_
      refine tv_iload_n hG dX2_implies_35 rfl rfl ?_
      refine tv_isub hG dX2_implies_36 (by omega) ?_
      refine tv_iload_n hG dX2_implies_37 rfl rfl ?_
      refine tv_icmp_le (tgt := 47) hG dX2_implies_38 (by decide) (by omega) (by omega) (fun c4 => ?_) (fun c4 => ?_)
      · refine tv_iload_n hG dX2_implies_47 rfl rfl ?_
        exact hret _ _ _ _ dX2_implies_48 ⟨congrArg nI (by unfold tv_app; (repeat' split) <;> omega), rfl⟩
      · refine tv_iconst (x := nI 2) hG dX2_implies_41 rfl ?_
        refine tv_iload_n hG dX2_implies_42 rfl rfl ?_
        refine tv_isub hG dX2_implies_43 (by omega) ?_
        refine tv_goto (tgt := 48) hG dX2_implies_44 (by decide) ?_
        exact hret _ _ _ _ dX2_implies_48 ⟨congrArg nI (by unfold tv_app; (repeat' split) <;> omega), rfl⟩
  · refine tv_iconst (x := nI 2) hG dX2_implies_7 rfl ?_
    refine tv_iload_n hG dX2_implies_8 rfl rfl ?_
    refine tv_isub hG dX2_implies_9 (by omega) ?_
    refine tv_iload_n hG dX2_implies_10 rfl rfl ?_
    refine tv_iadd hG dX2_implies_11 ?_
    refine tv_iconst (x := nI 2) hG dX2_implies_12 rfl ?_
    refine tv_icmp_ge (tgt := 24) hG dX2_implies_13 (by decide) (by omega) (by omega) (fun c5 => ?_) (fun c5 => ?_)
    · refine tv_iconst (x := nI 2) hG dX2_implies_24 rfl ?_
      exact hret _ _ _ _ dX2_implies_25 ⟨congrArg nI (by unfold tv_app; (repeat' split) <;> omega), rfl⟩
    · refine tv_iconst (x := nI 2) hG dX2_implies_16 rfl ?_
      refine tv_iload_n hG dX2_implies_17 rfl rfl ?_
      refine tv_isub hG dX2_implies_18 (by omega) ?_
      refine tv_iload_n hG dX2_implies_19 rfl rfl ?_
      refine tv_iadd hG dX2_implies_20 ?_
      refine tv_goto (tgt := 25) hG dX2_implies_21 (by decide) ?_
      exact hret _ _ _ _ dX2_implies_25 ⟨congrArg nI (by unfold tv_app; (repeat' split) <;> omega), rfl⟩
end
section
set_option maxRecDepth 100000
/-! WALKS: demands, branches, questions, reading -/
theorem tv_a1 (m : Nat) : m &&& 1 < 2147483648 := by
  have := Nat.and_le_right (n := m) (m := 1)
  omega
set_option maxHeartbeats 4000000 in
theorem tv_cX_demand (l : Launch) (D : va_G) (h : Nat → Nat) (d : Nat → ClassId) (σ : tv_M) (c v : Nat) (hc : c < 128) (hv : v < 128) (hd : σ 9 0 ≤ 32) : tv_CV l yX1_demand cX1_demand 3 ({ frames := 0, cells := 0, slots := 0, locals := 0 } : Room) D (tv_tX d) (tv_wX h d) [.ref (h 0), .int (nI c), .int (nI v)] σ (fun τ => τ = tv_dem σ c v) := by
  refine tv_inV (own := RX1) (by decide) rfl (by simp [Value.category]) (Nat.le_of_ble_eq_true rfl) ?_
  intro G hG hret
  refine tv_aload_n hG dX1_demand_0 rfl rfl ?_
  refine tv_gX_9 (v := σ 9 0) hG rfl dX1_demand_1 ?_
  refine tv_bipush (x := nI 32) hG dX1_demand_4 rfl ?_
  refine tv_icmp_ge (tgt := 41) hG dX1_demand_6 (by decide) (by omega) (by omega) (fun c1 => ?_) (fun c1 => ?_)
  · exact hret _ _ _ dX1_demand_41 (by unfold tv_dem; first | rw [if_pos c1] | rw [if_neg (by omega)])
  · refine tv_aload_n hG dX1_demand_9 rfl rfl ?_
    refine tv_gX_7 hG dX1_demand_10 ?_
    refine tv_aload_n hG dX1_demand_13 rfl rfl ?_
    refine tv_gX_9 (v := σ 9 0) hG rfl dX1_demand_14 ?_
    refine tv_iload_n hG dX1_demand_17 rfl rfl ?_
    refine tv_i2b hG dX1_demand_18 (by omega) ?_
    refine tv_sX_7 hG dX1_demand_19 (by omega) (by omega) ?_
    refine tv_aload_n hG dX1_demand_20 rfl rfl ?_
    refine tv_gX_8 hG dX1_demand_21 ?_
    refine tv_aload_n hG dX1_demand_24 rfl rfl ?_
    refine tv_gX_9 (v := σ 9 0) hG (by simp [tv_st]) dX1_demand_25 ?_
    refine tv_iload_n hG dX1_demand_28 rfl rfl ?_
    refine tv_i2b hG dX1_demand_29 (by omega) ?_
    refine tv_sX_8 hG dX1_demand_30 (by omega) (by omega) ?_
    refine tv_aload_n hG dX1_demand_31 rfl rfl ?_
    refine tv_dup hG dX1_demand_32 rfl ?_
    refine tv_gX_9 (v := σ 9 0) hG (by simp [tv_st]) dX1_demand_33 ?_
    refine tv_iconst (x := nI 1) hG dX1_demand_36 rfl ?_
    refine tv_iadd hG dX1_demand_37 ?_
    refine tv_pX_9 hG dX1_demand_38 ?_
    exact hret _ _ _ dX1_demand_41 (by unfold tv_dem; first | rw [if_pos c1] | rw [if_neg (by omega)])
set_option maxHeartbeats 4000000 in
theorem tv_cX_beforeNot (l : Launch) (D : va_G) (h : Nat → Nat) (d : Nat → ClassId) (σ : tv_M) (v : Nat) (hv : v < 8) (hlg : σ 0 0 < 3) : tv_CI l yX1_beforeNot cX1_beforeNot 5 (some .int) ({ frames := 1, cells := 0, slots := 0, locals := 21 } : Room) D (tv_tX d) (tv_wX h d) [.ref (h 0), .int (nI v)] σ (fun z τ => z = nI (tv_bn (σ 0 0) v) ∧ τ = σ) := by
  refine tv_inI (own := RX1) (by decide) rfl (by simp [Value.category]) (Nat.le_of_ble_eq_true rfl) ?_
  intro G hG hret
  refine tv_iconst (x := nI 0) hG dX1_beforeNot_0 rfl ?_
  refine tv_istore_n (vs1 := [.ref (h 0), .int (nI v), .int (nI 0)]) hG dX1_beforeNot_1 rfl (by decide) (Nat.le_of_ble_eq_true rfl) rfl ?_
  refine tv_iconst (x := nI 0) hG dX1_beforeNot_2 rfl ?_
  refine tv_istore_n (vs1 := [.ref (h 0), .int (nI v), .int (nI 0), .int (nI 0)]) hG dX1_beforeNot_3 rfl (by decide) (Nat.le_of_ble_eq_true rfl) rfl ?_
  have loop : ∀ (k i s : Nat), i + k = 3 → s = tv_bnL (σ 0 0) v i → G 4 [.ref (h 0), .int (nI v), .int (nI s), .int (nI i)] [] σ := by
    intro k
    induction k with
    | zero =>
      intro i s hi hs
      refine tv_iload_n hG dX1_beforeNot_4 rfl rfl ?_
      refine tv_iconst (x := nI 3) hG dX1_beforeNot_5 rfl ?_
      refine tv_icmp_ge (tgt := 37) hG dX1_beforeNot_6 (by decide) (by omega) (by omega) (fun _ => ?_) (fun q => by exfalso; omega)
      refine tv_iload_n hG dX1_beforeNot_37 rfl rfl ?_
      exact hret _ _ _ _ dX1_beforeNot_38 ⟨by rw [hs, show i = 3 by omega]; rfl, rfl⟩
    | succ k ih =>
      intro i s hi hs
      refine tv_iload_n hG dX1_beforeNot_4 rfl rfl ?_
      refine tv_iconst (x := nI 3) hG dX1_beforeNot_5 rfl ?_
      refine tv_icmp_ge (tgt := 37) hG dX1_beforeNot_6 (by decide) (by omega) (by omega) (fun q => by exfalso; omega) (fun _ => ?_)
      refine tv_aload_n hG dX1_beforeNot_9 rfl rfl ?_
      refine tv_iload_n hG dX1_beforeNot_10 rfl rfl ?_
      refine tv_callxI (As := [.int (nI i)]) (st := []) hG (tv_cX_not l D h d σ i (by omega) (by omega)) q136 q138 qs2 q22 q139 (ci := 0) rfl rfl 1 (by decide +kernel) rfl rfl ⟨Nat.le_of_ble_eq_true rfl, Nat.le_of_ble_eq_true rfl⟩ rfl rfl (Nat.le_of_ble_eq_true rfl) dX1_beforeNot_11 ?_
      have hy := tv_not_le (σ 0 0) i
      refine tv_istore (vs1 := [.ref (h 0), .int (nI v), .int (nI s), .int (nI i), .int (nI (tv_not (σ 0 0) i))]) hG dX1_beforeNot_14 (by decide) (Nat.le_of_ble_eq_true rfl) rfl ?_
      refine tv_iload_n hG dX1_beforeNot_16 rfl rfl ?_
      refine tv_iload hG dX1_beforeNot_17 rfl ?_
      refine tv_ishr hG dX1_beforeNot_19 (by omega) (by omega) ?_
      refine tv_iconst (x := nI 1) hG dX1_beforeNot_20 rfl ?_
      refine tv_iand hG dX1_beforeNot_21 ?_
      refine tv_if_eq (tgt := 31) hG dX1_beforeNot_22 (by decide) (tv_a1 _) (fun c1 => ?_) (fun c1 => ?_)
      · refine tv_iinc (y := nI (i + 1)) (vs1 := [.ref (h 0), .int (nI v), .int (nI s), .int (nI (i + 1)), .int (nI (tv_not (σ 0 0) i))]) hG dX1_beforeNot_31 rfl (nI_1 _) (by decide) rfl ?_
        refine tv_goto (tgt := 4) hG dX1_beforeNot_34 (by decide) ?_
        refine tv_drop (vs1 := [.ref (h 0), .int (nI v), .int (nI s), .int (nI (i + 1))]) hG ⟨_, rfl⟩ ?_
        exact ih (i + 1) _ (by omega) (by rw [hs]; simp only [tv_bnL]; first | rw [if_pos c1] | rw [if_neg c1])
      · refine tv_iload_n hG dX1_beforeNot_25 rfl rfl ?_
        refine tv_iconst (x := nI 1) hG dX1_beforeNot_26 rfl ?_
        refine tv_iload_n hG dX1_beforeNot_27 rfl rfl ?_
        refine tv_ishl hG dX1_beforeNot_28 (by omega) (tv_shlt (by omega) (by omega)) ?_
        refine tv_ior hG dX1_beforeNot_29 ?_
        refine tv_istore_n (vs1 := [.ref (h 0), .int (nI v), .int (nI (s ||| (1 * 2 ^ i))), .int (nI i), .int (nI (tv_not (σ 0 0) i))]) hG dX1_beforeNot_30 rfl (by decide) (Nat.le_of_ble_eq_true rfl) rfl ?_
        refine tv_iinc (y := nI (i + 1)) (vs1 := [.ref (h 0), .int (nI v), .int (nI (s ||| (1 * 2 ^ i))), .int (nI (i + 1)), .int (nI (tv_not (σ 0 0) i))]) hG dX1_beforeNot_31 rfl (nI_1 _) (by decide) rfl ?_
        refine tv_goto (tgt := 4) hG dX1_beforeNot_34 (by decide) ?_
        refine tv_drop (vs1 := [.ref (h 0), .int (nI v), .int (nI (s ||| (1 * 2 ^ i))), .int (nI (i + 1))]) hG ⟨_, rfl⟩ ?_
        exact ih (i + 1) _ (by omega) (by rw [hs]; simp only [tv_bnL]; first | rw [if_pos c1] | rw [if_neg c1])
  exact loop 3 0 0 (by omega) rfl
set_option maxHeartbeats 4000000 in
theorem tv_cX_partners (l : Launch) (D : va_G) (h : Nat → Nat) (d : Nat → ClassId) (σ : tv_M) (t x v : Nat) (ht : t < 4) (hx : x ≤ 2) (hv : v < 8) (hlg : σ 0 0 < 3) : tv_CI l yX1_partners cX1_partners 7 (some .int) ({ frames := 1, cells := 0, slots := 0, locals := 23 } : Room) D (tv_tX d) (tv_wX h d) [.ref (h 0), .int (nI t), .int (nI x), .int (nI v)] σ (fun z τ => z = nI (tv_pn (σ 0 0) t x v) ∧ τ = σ) := by
  refine tv_inI (own := RX1) (by decide) rfl (by simp [Value.category]) (Nat.le_of_ble_eq_true rfl) ?_
  intro G hG hret
  refine tv_iconst (x := nI 0) hG dX1_partners_0 rfl ?_
  refine tv_istore (vs1 := [.ref (h 0), .int (nI t), .int (nI x), .int (nI v), .int (nI 0)]) hG dX1_partners_1 (by decide) (Nat.le_of_ble_eq_true rfl) rfl ?_
  refine tv_iconst (x := nI 0) hG dX1_partners_3 rfl ?_
  refine tv_istore (vs1 := [.ref (h 0), .int (nI t), .int (nI x), .int (nI v), .int (nI 0), .int (nI 0)]) hG dX1_partners_4 (by decide) (Nat.le_of_ble_eq_true rfl) rfl ?_
  have loop : ∀ (k i s : Nat), i + k = 3 → s = tv_ptL (σ 0 0) t x v i → G 6 [.ref (h 0), .int (nI t), .int (nI x), .int (nI v), .int (nI s), .int (nI i)] [] σ := by
    intro k
    induction k with
    | zero =>
      intro i s hi hs
      refine tv_iload hG dX1_partners_6 rfl ?_
      refine tv_iconst (x := nI 3) hG dX1_partners_8 rfl ?_
      refine tv_icmp_ge (tgt := 46) hG dX1_partners_9 (by decide) (by omega) (by omega) (fun _ => ?_) (fun q => by exfalso; omega)
      refine tv_iload hG dX1_partners_46 rfl ?_
      exact hret _ _ _ _ dX1_partners_48 ⟨by rw [hs, show i = 3 by omega]; rfl, rfl⟩
    | succ k ih =>
      intro i s hi hs
      refine tv_iload hG dX1_partners_6 rfl ?_
      refine tv_iconst (x := nI 3) hG dX1_partners_8 rfl ?_
      refine tv_icmp_ge (tgt := 46) hG dX1_partners_9 (by decide) (by omega) (by omega) (fun q => by exfalso; omega) (fun _ => ?_)
      refine tv_aload_n hG dX1_partners_12 rfl rfl ?_
      refine tv_iload_n hG dX1_partners_13 rfl rfl ?_
      refine tv_iload_n hG dX1_partners_14 rfl rfl ?_
      refine tv_iload hG dX1_partners_15 rfl ?_
      refine tv_callxI (As := [.int (nI t), .int (nI x), .int (nI i)]) (st := []) hG (tv_cX_apply l D h d σ t x i (by omega) (by omega) (by omega) (by omega)) q140 q142 qs3 q22 q143 (ci := 0) rfl rfl 3 (by decide +kernel) rfl rfl ⟨Nat.le_of_ble_eq_true rfl, Nat.le_of_ble_eq_true rfl⟩ rfl rfl (Nat.le_of_ble_eq_true rfl) dX1_partners_17 ?_
      have hy := tv_app_le (lg := σ 0 0) (t := t) (x := x) (y := i) (by omega) (by omega)
      refine tv_istore (vs1 := [.ref (h 0), .int (nI t), .int (nI x), .int (nI v), .int (nI s), .int (nI i), .int (nI (tv_app (σ 0 0) t x i))]) hG dX1_partners_20 (by decide) (Nat.le_of_ble_eq_true rfl) rfl ?_
      refine tv_iload_n hG dX1_partners_22 rfl rfl ?_
      refine tv_iload hG dX1_partners_23 rfl ?_
      refine tv_ishr hG dX1_partners_25 (by omega) (by omega) ?_
      refine tv_iconst (x := nI 1) hG dX1_partners_26 rfl ?_
      refine tv_iand hG dX1_partners_27 ?_
      refine tv_if_eq (tgt := 40) hG dX1_partners_28 (by decide) (tv_a1 _) (fun c1 => ?_) (fun c1 => ?_)
      · refine tv_iinc (y := nI (i + 1)) (vs1 := [.ref (h 0), .int (nI t), .int (nI x), .int (nI v), .int (nI s), .int (nI (i + 1)), .int (nI (tv_app (σ 0 0) t x i))]) hG dX1_partners_40 rfl (nI_1 _) (by decide) rfl ?_
        refine tv_goto (tgt := 6) hG dX1_partners_43 (by decide) ?_
        refine tv_drop (vs1 := [.ref (h 0), .int (nI t), .int (nI x), .int (nI v), .int (nI s), .int (nI (i + 1))]) hG ⟨_, rfl⟩ ?_
        exact ih (i + 1) _ (by omega) (by rw [hs]; simp only [tv_ptL]; first | rw [if_pos c1] | rw [if_neg c1])
      · refine tv_iload hG dX1_partners_31 rfl ?_
        refine tv_iconst (x := nI 1) hG dX1_partners_33 rfl ?_
        refine tv_iload hG dX1_partners_34 rfl ?_
        refine tv_ishl hG dX1_partners_36 (by omega) (tv_shlt (by omega) (by omega)) ?_
        refine tv_ior hG dX1_partners_37 ?_
        refine tv_istore (vs1 := [.ref (h 0), .int (nI t), .int (nI x), .int (nI v), .int (nI (s ||| (1 * 2 ^ i))), .int (nI i), .int (nI (tv_app (σ 0 0) t x i))]) hG dX1_partners_38 (by decide) (Nat.le_of_ble_eq_true rfl) rfl ?_
        refine tv_iinc (y := nI (i + 1)) (vs1 := [.ref (h 0), .int (nI t), .int (nI x), .int (nI v), .int (nI (s ||| (1 * 2 ^ i))), .int (nI (i + 1)), .int (nI (tv_app (σ 0 0) t x i))]) hG dX1_partners_40 rfl (nI_1 _) (by decide) rfl ?_
        refine tv_goto (tgt := 6) hG dX1_partners_43 (by decide) ?_
        refine tv_drop (vs1 := [.ref (h 0), .int (nI t), .int (nI x), .int (nI v), .int (nI (s ||| (1 * 2 ^ i))), .int (nI (i + 1))]) hG ⟨_, rfl⟩ ?_
        exact ih (i + 1) _ (by omega) (by rw [hs]; simp only [tv_ptL]; first | rw [if_pos c1] | rw [if_neg c1])
  exact loop 3 0 0 (by omega) rfl
set_option maxHeartbeats 4000000 in
theorem tv_cX_open (l : Launch) (D : va_G) (h : Nat → Nat) (d : Nat → ClassId) (σ : tv_M) (lv : Nat) (hlv : lv < 12) (h9 : σ 9 0 < 128) (h10 : σ 10 0 < 128) (h0 : σ 11 0 < 128) (h1 : σ 11 1 < 128) (h2 : σ 11 2 < 128) (h3 : σ 11 3 < 128) : tv_CV l yX1_open cX1_open 3 ({ frames := 0, cells := 0, slots := 0, locals := 0 } : Room) D (tv_tX d) (tv_wX h d) [.ref (h 0), .int (nI lv)] σ (fun τ => τ = tv_br σ lv) := by
  refine tv_inV (own := RX1) (by decide) rfl (by simp [Value.category]) (Nat.le_of_ble_eq_true rfl) ?_
  intro G hG hret
  refine tv_aload_n hG dX1_open_0 rfl rfl ?_
  refine tv_gX_12 hG dX1_open_1 ?_
  refine tv_iload_n hG dX1_open_4 rfl rfl ?_
  refine tv_aload_n hG dX1_open_5 rfl rfl ?_
  refine tv_gX_9 (v := σ 9 0) hG rfl dX1_open_6 ?_
  refine tv_i2b hG dX1_open_9 (by omega) ?_
  refine tv_sX_12 hG dX1_open_10 (by omega) (by omega) ?_
  refine tv_aload_n hG dX1_open_11 rfl rfl ?_
  refine tv_gX_13 hG dX1_open_12 ?_
  refine tv_iload_n hG dX1_open_15 rfl rfl ?_
  refine tv_aload_n hG dX1_open_16 rfl rfl ?_
  refine tv_gX_10 (v := σ 10 0) hG (by simp [tv_st]) dX1_open_17 ?_
  refine tv_i2b hG dX1_open_20 (by omega) ?_
  refine tv_sX_13 hG dX1_open_21 (by omega) (by omega) ?_
  refine tv_aload_n hG dX1_open_22 rfl rfl ?_
  refine tv_gX_15 hG dX1_open_23 ?_
  refine tv_iload_n hG dX1_open_26 rfl rfl ?_
  refine tv_iconst (x := -1) hG dX1_open_27 rfl ?_
  refine tv_sX_15 (v := 0) hG (by decide) dX1_open_28 (by omega) (by omega) ?_
  refine tv_iconst (x := nI 0) hG dX1_open_29 rfl ?_
  refine tv_istore_n (vs1 := [.ref (h 0), .int (nI lv), .int (nI 0)]) hG dX1_open_30 rfl (by decide) (Nat.le_of_ble_eq_true rfl) rfl ?_
  refine tv_iload_n hG dX1_open_31 rfl rfl ?_
  refine tv_iconst (x := nI 4) hG dX1_open_32 rfl ?_
  refine tv_icmp_ge (tgt := 58) hG dX1_open_33 (by decide) (by omega) (by omega) (fun q => absurd q (by decide)) (fun _ => ?_)
  refine tv_aload_n hG dX1_open_36 rfl rfl ?_
  refine tv_gX_14 hG dX1_open_37 ?_
  refine tv_iload_n hG dX1_open_40 rfl rfl ?_
  refine tv_iconst (x := nI 4) hG dX1_open_41 rfl ?_
  refine tv_imul hG dX1_open_42 ?_
  refine tv_iload_n hG dX1_open_43 rfl rfl ?_
  refine tv_iadd hG dX1_open_44 ?_
  refine tv_aload_n hG dX1_open_45 rfl rfl ?_
  refine tv_gX_11 hG dX1_open_46 ?_
  refine tv_iload_n hG dX1_open_49 rfl rfl ?_
  refine tv_lX_11 (v := σ 11 0) hG (by simp [tv_st]) dX1_open_50 (by omega) ?_
  refine tv_sX_14 hG dX1_open_51 (by omega) (by omega) ?_
  refine tv_iinc (y := nI 1) (vs1 := [.ref (h 0), .int (nI lv), .int (nI 1)]) hG dX1_open_52 rfl (nI_1 _) (by decide) rfl ?_
  refine tv_goto (tgt := 31) hG dX1_open_55 (by decide) ?_
  refine tv_iload_n hG dX1_open_31 rfl rfl ?_
  refine tv_iconst (x := nI 4) hG dX1_open_32 rfl ?_
  refine tv_icmp_ge (tgt := 58) hG dX1_open_33 (by decide) (by omega) (by omega) (fun q => absurd q (by decide)) (fun _ => ?_)
  refine tv_aload_n hG dX1_open_36 rfl rfl ?_
  refine tv_gX_14 hG dX1_open_37 ?_
  refine tv_iload_n hG dX1_open_40 rfl rfl ?_
  refine tv_iconst (x := nI 4) hG dX1_open_41 rfl ?_
  refine tv_imul hG dX1_open_42 ?_
  refine tv_iload_n hG dX1_open_43 rfl rfl ?_
  refine tv_iadd hG dX1_open_44 ?_
  refine tv_aload_n hG dX1_open_45 rfl rfl ?_
  refine tv_gX_11 hG dX1_open_46 ?_
  refine tv_iload_n hG dX1_open_49 rfl rfl ?_
  refine tv_lX_11 (v := σ 11 1) hG (by simp [tv_st]) dX1_open_50 (by omega) ?_
  refine tv_sX_14 hG dX1_open_51 (by omega) (by omega) ?_
  refine tv_iinc (y := nI 2) (vs1 := [.ref (h 0), .int (nI lv), .int (nI 2)]) hG dX1_open_52 rfl (nI_1 _) (by decide) rfl ?_
  refine tv_goto (tgt := 31) hG dX1_open_55 (by decide) ?_
  refine tv_iload_n hG dX1_open_31 rfl rfl ?_
  refine tv_iconst (x := nI 4) hG dX1_open_32 rfl ?_
  refine tv_icmp_ge (tgt := 58) hG dX1_open_33 (by decide) (by omega) (by omega) (fun q => absurd q (by decide)) (fun _ => ?_)
  refine tv_aload_n hG dX1_open_36 rfl rfl ?_
  refine tv_gX_14 hG dX1_open_37 ?_
  refine tv_iload_n hG dX1_open_40 rfl rfl ?_
  refine tv_iconst (x := nI 4) hG dX1_open_41 rfl ?_
  refine tv_imul hG dX1_open_42 ?_
  refine tv_iload_n hG dX1_open_43 rfl rfl ?_
  refine tv_iadd hG dX1_open_44 ?_
  refine tv_aload_n hG dX1_open_45 rfl rfl ?_
  refine tv_gX_11 hG dX1_open_46 ?_
  refine tv_iload_n hG dX1_open_49 rfl rfl ?_
  refine tv_lX_11 (v := σ 11 2) hG (by simp [tv_st]) dX1_open_50 (by omega) ?_
  refine tv_sX_14 hG dX1_open_51 (by omega) (by omega) ?_
  refine tv_iinc (y := nI 3) (vs1 := [.ref (h 0), .int (nI lv), .int (nI 3)]) hG dX1_open_52 rfl (nI_1 _) (by decide) rfl ?_
  refine tv_goto (tgt := 31) hG dX1_open_55 (by decide) ?_
  refine tv_iload_n hG dX1_open_31 rfl rfl ?_
  refine tv_iconst (x := nI 4) hG dX1_open_32 rfl ?_
  refine tv_icmp_ge (tgt := 58) hG dX1_open_33 (by decide) (by omega) (by omega) (fun q => absurd q (by decide)) (fun _ => ?_)
  refine tv_aload_n hG dX1_open_36 rfl rfl ?_
  refine tv_gX_14 hG dX1_open_37 ?_
  refine tv_iload_n hG dX1_open_40 rfl rfl ?_
  refine tv_iconst (x := nI 4) hG dX1_open_41 rfl ?_
  refine tv_imul hG dX1_open_42 ?_
  refine tv_iload_n hG dX1_open_43 rfl rfl ?_
  refine tv_iadd hG dX1_open_44 ?_
  refine tv_aload_n hG dX1_open_45 rfl rfl ?_
  refine tv_gX_11 hG dX1_open_46 ?_
  refine tv_iload_n hG dX1_open_49 rfl rfl ?_
  refine tv_lX_11 (v := σ 11 3) hG (by simp [tv_st]) dX1_open_50 (by omega) ?_
  refine tv_sX_14 hG dX1_open_51 (by omega) (by omega) ?_
  refine tv_iinc (y := nI 4) (vs1 := [.ref (h 0), .int (nI lv), .int (nI 4)]) hG dX1_open_52 rfl (nI_1 _) (by decide) rfl ?_
  refine tv_goto (tgt := 31) hG dX1_open_55 (by decide) ?_
  refine tv_iload_n hG dX1_open_31 rfl rfl ?_
  refine tv_iconst (x := nI 4) hG dX1_open_32 rfl ?_
  refine tv_icmp_ge (tgt := 58) hG dX1_open_33 (by decide) (by omega) (by omega) (fun _ => ?_) (fun q => absurd q (by decide))
  exact hret _ _ _ dX1_open_58 rfl
set_option maxHeartbeats 4000000 in
theorem tv_cX_ask (l : Launch) (D : va_G) (h : Nat → Nat) (d : Nat → ClassId) (σ : tv_M) (f g : Nat) : tv_CV l yX1_ask cX1_ask 4 ({ frames := 0, cells := 0, slots := 0, locals := 0 } : Room) D (tv_tX d) (tv_wX h d) [.ref (h 0), .int (nI f), .int (nI g)] σ (fun τ => τ = tv_ask σ f g) := by
  refine tv_inV (own := RX1) (by decide) rfl (by simp [Value.category]) (Nat.le_of_ble_eq_true rfl) ?_
  intro G hG hret
  refine tv_aload_n hG dX1_ask_0 rfl rfl ?_
  refine tv_iload_n hG dX1_ask_1 rfl rfl ?_
  refine tv_pX_16 hG dX1_ask_2 ?_
  refine tv_aload_n hG dX1_ask_5 rfl rfl ?_
  refine tv_iload_n hG dX1_ask_6 rfl rfl ?_
  refine tv_pX_17 hG dX1_ask_7 ?_
  refine tv_iconst (x := nI 0) hG dX1_ask_10 rfl ?_
  refine tv_istore_n (vs1 := [.ref (h 0), .int (nI f), .int (nI g), .int (nI 0)]) hG dX1_ask_11 rfl (by decide) (Nat.le_of_ble_eq_true rfl) rfl ?_
  refine tv_iload_n hG dX1_ask_12 rfl rfl ?_
  refine tv_iconst (x := nI 4) hG dX1_ask_13 rfl ?_
  refine tv_icmp_ge (tgt := 31) hG dX1_ask_14 (by decide) (by omega) (by omega) (fun q => absurd q (by decide)) (fun _ => ?_)
  refine tv_aload_n hG dX1_ask_17 rfl rfl ?_
  refine tv_gX_18 hG dX1_ask_18 ?_
  refine tv_iload_n hG dX1_ask_21 rfl rfl ?_
  refine tv_bipush (x := nI 7) hG dX1_ask_22 rfl ?_
  refine tv_sX_18 hG dX1_ask_24 (by omega) (by omega) ?_
  refine tv_iinc (y := nI 1) (vs1 := [.ref (h 0), .int (nI f), .int (nI g), .int (nI 1)]) hG dX1_ask_25 rfl (nI_1 _) (by decide) rfl ?_
  refine tv_goto (tgt := 12) hG dX1_ask_28 (by decide) ?_
  refine tv_iload_n hG dX1_ask_12 rfl rfl ?_
  refine tv_iconst (x := nI 4) hG dX1_ask_13 rfl ?_
  refine tv_icmp_ge (tgt := 31) hG dX1_ask_14 (by decide) (by omega) (by omega) (fun q => absurd q (by decide)) (fun _ => ?_)
  refine tv_aload_n hG dX1_ask_17 rfl rfl ?_
  refine tv_gX_18 hG dX1_ask_18 ?_
  refine tv_iload_n hG dX1_ask_21 rfl rfl ?_
  refine tv_bipush (x := nI 7) hG dX1_ask_22 rfl ?_
  refine tv_sX_18 hG dX1_ask_24 (by omega) (by omega) ?_
  refine tv_iinc (y := nI 2) (vs1 := [.ref (h 0), .int (nI f), .int (nI g), .int (nI 2)]) hG dX1_ask_25 rfl (nI_1 _) (by decide) rfl ?_
  refine tv_goto (tgt := 12) hG dX1_ask_28 (by decide) ?_
  refine tv_iload_n hG dX1_ask_12 rfl rfl ?_
  refine tv_iconst (x := nI 4) hG dX1_ask_13 rfl ?_
  refine tv_icmp_ge (tgt := 31) hG dX1_ask_14 (by decide) (by omega) (by omega) (fun q => absurd q (by decide)) (fun _ => ?_)
  refine tv_aload_n hG dX1_ask_17 rfl rfl ?_
  refine tv_gX_18 hG dX1_ask_18 ?_
  refine tv_iload_n hG dX1_ask_21 rfl rfl ?_
  refine tv_bipush (x := nI 7) hG dX1_ask_22 rfl ?_
  refine tv_sX_18 hG dX1_ask_24 (by omega) (by omega) ?_
  refine tv_iinc (y := nI 3) (vs1 := [.ref (h 0), .int (nI f), .int (nI g), .int (nI 3)]) hG dX1_ask_25 rfl (nI_1 _) (by decide) rfl ?_
  refine tv_goto (tgt := 12) hG dX1_ask_28 (by decide) ?_
  refine tv_iload_n hG dX1_ask_12 rfl rfl ?_
  refine tv_iconst (x := nI 4) hG dX1_ask_13 rfl ?_
  refine tv_icmp_ge (tgt := 31) hG dX1_ask_14 (by decide) (by omega) (by omega) (fun q => absurd q (by decide)) (fun _ => ?_)
  refine tv_aload_n hG dX1_ask_17 rfl rfl ?_
  refine tv_gX_18 hG dX1_ask_18 ?_
  refine tv_iload_n hG dX1_ask_21 rfl rfl ?_
  refine tv_bipush (x := nI 7) hG dX1_ask_22 rfl ?_
  refine tv_sX_18 hG dX1_ask_24 (by omega) (by omega) ?_
  refine tv_iinc (y := nI 4) (vs1 := [.ref (h 0), .int (nI f), .int (nI g), .int (nI 4)]) hG dX1_ask_25 rfl (nI_1 _) (by decide) rfl ?_
  refine tv_goto (tgt := 12) hG dX1_ask_28 (by decide) ?_
  refine tv_iload_n hG dX1_ask_12 rfl rfl ?_
  refine tv_iconst (x := nI 4) hG dX1_ask_13 rfl ?_
  refine tv_icmp_ge (tgt := 31) hG dX1_ask_14 (by decide) (by omega) (by omega) (fun _ => ?_) (fun q => absurd q (by decide))
  exact hret _ _ _ dX1_ask_31 rfl
set_option maxHeartbeats 4000000 in
theorem tv_cX_askOne (l : Launch) (D : va_G) (h : Nat → Nat) (d : Nat → ClassId) (σ : tv_M) (f v : Nat) (hf : f < 2) : tv_CV l yX1_askOne cX1_askOne 3 ({ frames := 1, cells := 0, slots := 0, locals := 23 } : Room) D (tv_tX d) (tv_wX h d) [.ref (h 0), .int (nI f), .int (nI v)] σ (fun τ => τ = tv_ask σ (if f = 0 then v else 7) (if f = 0 then 7 else v)) := by
  refine tv_inV (own := RX1) (by decide) rfl (by simp [Value.category]) (Nat.le_of_ble_eq_true rfl) ?_
  intro G hG hret
  rcases (show f = 0 ∨ f = 1 by omega) with rfl | rfl
  · refine tv_aload_n hG dX1_askOne_0 rfl rfl ?_
    refine tv_iload_n hG dX1_askOne_1 rfl rfl ?_
    refine tv_if_ne (tgt := 9) hG dX1_askOne_2 (by decide) (by omega) (fun q => absurd q (by decide)) (fun _ => ?_)
    refine tv_iload_n hG dX1_askOne_5 rfl rfl ?_
    refine tv_goto (tgt := 11) hG dX1_askOne_6 (by decide) ?_
    refine tv_iload_n hG dX1_askOne_11 rfl rfl ?_
    refine tv_if_ne (tgt := 20) hG dX1_askOne_12 (by decide) (by omega) (fun q => absurd q (by decide)) (fun _ => ?_)
    refine tv_bipush (x := nI 7) hG dX1_askOne_15 rfl ?_
    refine tv_goto (tgt := 21) hG dX1_askOne_17 (by decide) ?_
    refine tv_callxV (As := [.int (nI v), .int (nI 7)]) (st := []) hG (tv_cX_ask l D h d σ v 7) q155 q157 qs5 q22 q158 (ci := 0) rfl rfl 2 (by decide +kernel) rfl rfl ⟨Nat.le_of_ble_eq_true rfl, Nat.le_of_ble_eq_true rfl⟩ rfl rfl (Nat.le_of_ble_eq_true rfl) dX1_askOne_21 ?_
    exact hret _ _ _ dX1_askOne_24 rfl
  · refine tv_aload_n hG dX1_askOne_0 rfl rfl ?_
    refine tv_iload_n hG dX1_askOne_1 rfl rfl ?_
    refine tv_if_ne (tgt := 9) hG dX1_askOne_2 (by decide) (by omega) (fun _ => ?_) (fun q => absurd q (by decide))
    refine tv_bipush (x := nI 7) hG dX1_askOne_9 rfl ?_
    refine tv_iload_n hG dX1_askOne_11 rfl rfl ?_
    refine tv_if_ne (tgt := 20) hG dX1_askOne_12 (by decide) (by omega) (fun _ => ?_) (fun q => absurd q (by decide))
    refine tv_iload_n hG dX1_askOne_20 rfl rfl ?_
    refine tv_callxV (As := [.int (nI 7), .int (nI v)]) (st := []) hG (tv_cX_ask l D h d σ 7 v) q155 q157 qs5 q22 q158 (ci := 0) rfl rfl 2 (by decide +kernel) rfl rfl ⟨Nat.le_of_ble_eq_true rfl, Nat.le_of_ble_eq_true rfl⟩ rfl rfl (Nat.le_of_ble_eq_true rfl) dX1_askOne_21 ?_
    exact hret _ _ _ dX1_askOne_24 rfl
set_option maxHeartbeats 4000000 in
theorem tv_cX_attach (l : Launch) (D : va_G) (h : Nat → Nat) (d : Nat → ClassId) (σ : tv_M) (c : Nat) (hc : c < 18) (h1 : 1 ≤ σ 6 0) (h2 : σ 6 0 ≤ 10) (h4 : σ 4 (σ 6 0 - 1) < 18) (h5 : 1 ≤ σ 5 (σ 6 0 - 1)) (h6 : σ 5 (σ 6 0 - 1) < 128) : tv_CV l yX1_attach cX1_attach 3 ({ frames := 0, cells := 0, slots := 0, locals := 0 } : Room) D (tv_tX d) (tv_wX h d) [.ref (h 0), .int (nI c)] σ (fun τ => τ = tv_att σ c) := by
  refine tv_inV (own := RX1) (by decide) rfl (by simp [Value.category]) (Nat.le_of_ble_eq_true rfl) ?_
  intro G hG hret
  refine tv_aload_n hG dX1_attach_0 rfl rfl ?_
  refine tv_gX_6 (v := σ 6 0) hG rfl dX1_attach_1 ?_
  refine tv_iconst (x := nI 1) hG dX1_attach_4 rfl ?_
  refine tv_isub hG dX1_attach_5 (by omega) ?_
  refine tv_istore_n (vs1 := [.ref (h 0), .int (nI c), .int (nI ((σ 6 0) - 1))]) hG dX1_attach_6 rfl (by decide) (Nat.le_of_ble_eq_true rfl) rfl ?_
  refine tv_iload_n hG dX1_attach_7 rfl rfl ?_
  refine tv_aload_n hG dX1_attach_8 rfl rfl ?_
  refine tv_gX_4 hG dX1_attach_9 ?_
  refine tv_iload_n hG dX1_attach_12 rfl rfl ?_
  refine tv_lX_4 (v := σ 4 ((σ 6 0) - 1)) hG rfl dX1_attach_13 (by omega) ?_
  refine tv_iconst (x := nI 1) hG dX1_attach_14 rfl ?_
  refine tv_iadd hG dX1_attach_15 ?_
  refine tv_icmp_eq (tgt := 32) hG dX1_attach_16 (by decide) (by omega) (by omega) (fun c1 => ?_) (fun c1 => ?_)
  · refine tv_aload_n hG dX1_attach_32 rfl rfl ?_
    refine tv_gX_5 hG dX1_attach_33 ?_
    refine tv_iload_n hG dX1_attach_36 rfl rfl ?_
    refine tv_dup2 hG dX1_attach_37 rfl rfl ?_
    refine tv_lX_5 (v := σ 5 ((σ 6 0) - 1)) hG rfl dX1_attach_38 (by omega) ?_
    refine tv_iconst (x := nI 1) hG dX1_attach_39 rfl ?_
    refine tv_isub hG dX1_attach_40 (by omega) ?_
    refine tv_i2b hG dX1_attach_41 (by omega) ?_
    refine tv_sX_5 hG dX1_attach_42 (by omega) (by omega) ?_
    refine tv_aload_n hG dX1_attach_43 rfl rfl ?_
    refine tv_gX_5 hG dX1_attach_44 ?_
    refine tv_iload_n hG dX1_attach_47 rfl rfl ?_
    refine tv_lX_5 (v := (σ 5 ((σ 6 0) - 1)) - 1) hG (by simp [tv_st]) dX1_attach_48 (by omega) ?_
    refine tv_if_ne (tgt := 62) hG dX1_attach_49 (by decide) (by omega) (fun c2 => ?_) (fun c2 => ?_)
    · exact hret _ _ _ dX1_attach_62 (by unfold tv_att tv_atA; simp [c1, c2])
    · refine tv_aload_n hG dX1_attach_52 rfl rfl ?_
      refine tv_dup hG dX1_attach_53 rfl ?_
      refine tv_gX_6 (v := σ 6 0) hG (by simp [tv_st]) dX1_attach_54 ?_
      refine tv_iconst (x := nI 1) hG dX1_attach_57 rfl ?_
      refine tv_isub hG dX1_attach_58 (by omega) ?_
      refine tv_pX_6 hG dX1_attach_59 ?_
      exact hret _ _ _ dX1_attach_62 (by unfold tv_att tv_atA; simp [c1, c2])
  · refine tv_aload_n hG dX1_attach_19 rfl rfl ?_
    refine tv_gX_3 hG dX1_attach_20 ?_
    refine tv_aload_n hG dX1_attach_23 rfl rfl ?_
    refine tv_gX_4 hG dX1_attach_24 ?_
    refine tv_iload_n hG dX1_attach_27 rfl rfl ?_
    refine tv_lX_4 (v := σ 4 ((σ 6 0) - 1)) hG rfl dX1_attach_28 (by omega) ?_
    refine tv_iload_n hG dX1_attach_29 rfl rfl ?_
    refine tv_i2b hG dX1_attach_30 (by omega) ?_
    refine tv_sX_3 hG dX1_attach_31 (by omega) (by omega) ?_
    refine tv_aload_n hG dX1_attach_32 rfl rfl ?_
    refine tv_gX_5 hG dX1_attach_33 ?_
    refine tv_iload_n hG dX1_attach_36 rfl rfl ?_
    refine tv_dup2 hG dX1_attach_37 rfl rfl ?_
    refine tv_lX_5 (v := σ 5 ((σ 6 0) - 1)) hG (by simp [tv_st]) dX1_attach_38 (by omega) ?_
    refine tv_iconst (x := nI 1) hG dX1_attach_39 rfl ?_
    refine tv_isub hG dX1_attach_40 (by omega) ?_
    refine tv_i2b hG dX1_attach_41 (by omega) ?_
    refine tv_sX_5 hG dX1_attach_42 (by omega) (by omega) ?_
    refine tv_aload_n hG dX1_attach_43 rfl rfl ?_
    refine tv_gX_5 hG dX1_attach_44 ?_
    refine tv_iload_n hG dX1_attach_47 rfl rfl ?_
    refine tv_lX_5 (v := (σ 5 ((σ 6 0) - 1)) - 1) hG (by simp [tv_st]) dX1_attach_48 (by omega) ?_
    refine tv_if_ne (tgt := 62) hG dX1_attach_49 (by decide) (by omega) (fun c3 => ?_) (fun c3 => ?_)
    · exact hret _ _ _ dX1_attach_62 (by unfold tv_att tv_atA; simp [c1, c3])
    · refine tv_aload_n hG dX1_attach_52 rfl rfl ?_
      refine tv_dup hG dX1_attach_53 rfl ?_
      refine tv_gX_6 (v := σ 6 0) hG (by simp [tv_st]) dX1_attach_54 ?_
      refine tv_iconst (x := nI 1) hG dX1_attach_57 rfl ?_
      refine tv_isub hG dX1_attach_58 (by omega) ?_
      refine tv_pX_6 hG dX1_attach_59 ?_
      exact hret _ _ _ dX1_attach_62 (by unfold tv_att tv_atA; simp [c1, c3])
end
section
set_option maxRecDepth 100000
/-! WALKS: reading a formula, the steps of the search -/
theorem tv_cX_isFormula_t (l : Launch) (D : va_G) (h : Nat → Nat) (d : Nat → ClassId) (σ : tv_M) (f : Nat) (hf : f < 2) : tv_CI l yX1_isFormula cX1_isFormula 1 (some .boolean) ({ frames := 0, cells := 0, slots := 0, locals := 0 } : Room) D (tv_tX d) (tv_wX h d) [.int (nI f)] σ (fun z τ => z = nI 1 ∧ τ = σ) := by
  have e : (if nI f = 0 ∨ nI f = 1 then (1 : Int32) else 0) = nI 1 := by
    rcases (show f = 0 ∨ f = 1 by omega) with rfl | rfl <;> decide
  have := tv_cX_isFormula l D h d σ (nI f)
  rw [e] at this
  exact this
theorem tv_cX_isFormula_f (l : Launch) (D : va_G) (h : Nat → Nat) (d : Nat → ClassId) (σ : tv_M) (g : Int32) (hg : ¬ (g = 0 ∨ g = 1)) : tv_CI l yX1_isFormula cX1_isFormula 1 (some .boolean) ({ frames := 0, cells := 0, slots := 0, locals := 0 } : Room) D (tv_tX d) (tv_wX h d) [.int g] σ (fun z τ => z = nI 0 ∧ τ = σ) := by
  have e : (if g = 0 ∨ g = 1 then (1 : Int32) else 0) = nI 0 := by
    rw [if_neg hg]; decide
  have := tv_cX_isFormula l D h d σ g
  rw [e] at this
  exact this
theorem tv_cX_isValue_t (l : Launch) (D : va_G) (h : Nat → Nat) (d : Nat → ClassId) (σ : tv_M) (v : Nat) (hv : v < 3) : tv_CI l yX1_isValue cX1_isValue 1 (some .boolean) ({ frames := 0, cells := 0, slots := 0, locals := 0 } : Room) D (tv_tX d) (tv_wX h d) [.int (nI v)] σ (fun z τ => z = nI 1 ∧ τ = σ) := by
  have e : (if ¬ nI v < 0 ∧ nI v < 3 then (1 : Int32) else 0) = nI 1 := by
    rcases (show v = 0 ∨ v = 1 ∨ v = 2 by omega) with rfl | rfl | rfl <;> decide
  have := tv_cX_isValue l D h d σ (nI v)
  rw [e] at this
  exact this
theorem tv_cX_isValue_f (l : Launch) (D : va_G) (h : Nat → Nat) (d : Nat → ClassId) (σ : tv_M) (g : Int32) (hg : ¬ (¬ g < 0 ∧ g < 3)) : tv_CI l yX1_isValue cX1_isValue 1 (some .boolean) ({ frames := 0, cells := 0, slots := 0, locals := 0 } : Room) D (tv_tX d) (tv_wX h d) [.int g] σ (fun z τ => z = nI 0 ∧ τ = σ) := by
  have e : (if ¬ g < 0 ∧ g < 3 then (1 : Int32) else 0) = nI 0 := by
    rw [if_neg hg]; decide
  have := tv_cX_isValue l D h d σ g
  rw [e] at this
  exact this
set_option maxHeartbeats 4000000 in
theorem tv_cX_read (l : Launch) (D : va_G) (h : Nat → Nat) (d : Nat → ClassId) (σ : tv_M) (f : Nat) (hf : f < 2) (hn : σ 2 f ≤ 9) (hg : tv_good (σ 1) (f * 9) (σ 2 f)) (ht : ∀ c, c < 18 → σ 1 c < 8) : tv_CV l yX1_read cX1_read 5 ({ frames := 1, cells := 0, slots := 0, locals := 22 } : Room) D (tv_tX d) (tv_wX h d) [.ref (h 0), .int (nI f)] σ (fun τ => τ = tv_rd σ f (σ 2 f)) := by
  refine tv_inV (own := RX1) (by decide) rfl (by simp [Value.category]) (Nat.le_of_ble_eq_true rfl) ?_
  intro G hG hret
  refine tv_aload_n hG dX1_read_0 rfl rfl ?_
  refine tv_iconst (x := nI 0) hG dX1_read_1 rfl ?_
  refine tv_pX_6 hG dX1_read_2 ?_
  refine tv_iconst (x := nI 0) hG dX1_read_5 rfl ?_
  refine tv_istore_n (vs1 := [.ref (h 0), .int (nI f), .int (nI 0)]) hG dX1_read_6 rfl (by decide) (Nat.le_of_ble_eq_true rfl) rfl ?_
  have loop : ∀ (k i : Nat), i + k = σ 2 f → G 7 [.ref (h 0), .int (nI f), .int (nI i)] [] (tv_rd σ f i) := by
    intro k
    induction k with
    | zero =>
      intro i hi
      have hI := tv_rd_inv hf hn hg i (by omega)
      refine tv_iload_n hG dX1_read_7 rfl rfl ?_
      refine tv_aload_n hG dX1_read_8 rfl rfl ?_
      refine tv_gX_2 hG dX1_read_9 ?_
      refine tv_iload_n hG dX1_read_12 rfl rfl ?_
      refine tv_lX_2 (v := σ 2 f) hG (congrFun (hI.2.2.1 2 (by omega)) _) dX1_read_13 (by omega) ?_
      refine tv_icmp_ge (tgt := 91) hG dX1_read_14 (by decide) (by omega) (by omega) (fun _ => ?_) (fun q => by exfalso; omega)
      exact hret _ _ _ dX1_read_91 (by rw [show i = σ 2 f by omega])
    | succ k ih =>
      intro i hi
      have hI := tv_rd_inv hf hn hg i (by omega)
      have hcnt := hI.1
      refine tv_iload_n hG dX1_read_7 rfl rfl ?_
      refine tv_aload_n hG dX1_read_8 rfl rfl ?_
      refine tv_gX_2 hG dX1_read_9 ?_
      refine tv_iload_n hG dX1_read_12 rfl rfl ?_
      refine tv_lX_2 (v := σ 2 f) hG (congrFun (hI.2.2.1 2 (by omega)) _) dX1_read_13 (by omega) ?_
      refine tv_icmp_ge (tgt := 91) hG dX1_read_14 (by decide) (by omega) (by omega) (fun q => by exfalso; omega) (fun _ => ?_)
      refine tv_iload_n hG dX1_read_17 rfl rfl ?_
      refine tv_bipush (x := nI 9) hG dX1_read_18 rfl ?_
      refine tv_imul hG dX1_read_20 ?_
      refine tv_iload_n hG dX1_read_21 rfl rfl ?_
      refine tv_iadd hG dX1_read_22 ?_
      refine tv_istore_n (vs1 := [.ref (h 0), .int (nI f), .int (nI i), .int (nI ((f * 9) + i))]) hG dX1_read_23 rfl (by decide) (Nat.le_of_ble_eq_true rfl) rfl ?_
      refine tv_aload_n hG dX1_read_24 rfl rfl ?_
      refine tv_gX_6 (v := (tv_rd σ f i) 6 0) hG rfl dX1_read_25 ?_
      refine tv_if_le (tgt := 36) hG dX1_read_28 (by decide) (by omega) (fun c1 => ?_) (fun c1 => ?_)
      · have hJ := tv_rd_att hf hn (show i < σ 2 f by omega) hg hI
        rw [if_pos c1] at hJ
        generalize hρ : tv_rd σ f i = ρ at hJ ⊢
        have hcnt2 := hJ.1
        refine tv_aload_n hG dX1_read_36 rfl rfl ?_
        refine tv_gX_1 hG dX1_read_37 ?_
        refine tv_iload_n hG dX1_read_40 rfl rfl ?_
        refine tv_lX_1 (v := σ 1 ((f * 9) + i)) hG (by first | exact congrFun (hJ.2.2.1 1 (by omega)) _ | (simp [tv_st]; exact congrFun (hJ.2.2.1 1 (by omega)) _)) dX1_read_41 (by omega) ?_
        refine tv_callSxI (As := [.int (nI (σ 1 ((f * 9) + i)))]) (st := []) hG (tv_cX_wants l D h d ρ (σ 1 ((f * 9) + i)) (ht _ (by omega))) q121 q122 q22 q123 1 (by decide +kernel) rfl rfl ⟨Nat.le_of_ble_eq_true rfl, Nat.le_of_ble_eq_true rfl⟩ rfl rfl (Nat.le_of_ble_eq_true rfl) dX1_read_42 ?_
        have hw2 := tv_ar_le (σ 1 ((f * 9) + i))
        refine tv_istore (vs1 := [.ref (h 0), .int (nI f), .int (nI i), .int (nI ((f * 9) + i)), .int (nI (tv_ar (σ 1 ((f * 9) + i))))]) hG dX1_read_45 (by decide) (Nat.le_of_ble_eq_true rfl) rfl ?_
        refine tv_iload hG dX1_read_47 rfl ?_
        refine tv_if_le (tgt := 85) hG dX1_read_49 (by decide) (by omega) (fun c2 => ?_) (fun c2 => ?_)
        · refine tv_iinc (y := nI (i + 1)) (vs1 := [.ref (h 0), .int (nI f), .int (nI (i + 1)), .int (nI ((f * 9) + i)), .int (nI (tv_ar (σ 1 ((f * 9) + i))))]) hG dX1_read_85 rfl (nI_1 _) (by decide) rfl ?_
          refine tv_goto (tgt := 7) hG dX1_read_88 (by decide) ?_
          refine tv_drop (vs1 := [.ref (h 0), .int (nI f), .int (nI (i + 1))]) hG ⟨_, rfl⟩ ?_
          have e : tv_rd σ f (i + 1) = ρ := by
            show tv_psh (if tv_rd σ f i 6 0 = 0 then tv_rd σ f i else tv_att (tv_rd σ f i) (f * 9 + i)) (f * 9 + i) = _
            rw [if_pos c1, hρ]
            unfold tv_psh
            rw [hJ.2.2.1 1 (by omega)]
            first | rw [if_pos c2] | rw [if_neg (by omega)]
          have hb := ih (i + 1) (by omega)
          rw [e] at hb
          exact hb
        · refine tv_aload_n hG dX1_read_52 rfl rfl ?_
          refine tv_gX_4 hG dX1_read_53 ?_
          refine tv_aload_n hG dX1_read_56 rfl rfl ?_
          refine tv_gX_6 (v := ρ 6 0) hG rfl dX1_read_57 ?_
          refine tv_iload_n hG dX1_read_60 rfl rfl ?_
          refine tv_i2b hG dX1_read_61 (by omega) ?_
          refine tv_sX_4 hG dX1_read_62 (by omega) (by omega) ?_
          refine tv_aload_n hG dX1_read_63 rfl rfl ?_
          refine tv_gX_5 hG dX1_read_64 ?_
          refine tv_aload_n hG dX1_read_67 rfl rfl ?_
          refine tv_gX_6 (v := ρ 6 0) hG (by simp [tv_st]) dX1_read_68 ?_
          refine tv_iload hG dX1_read_71 rfl ?_
          refine tv_i2b hG dX1_read_73 (by omega) ?_
          refine tv_sX_5 hG dX1_read_74 (by omega) (by omega) ?_
          refine tv_aload_n hG dX1_read_75 rfl rfl ?_
          refine tv_dup hG dX1_read_76 rfl ?_
          refine tv_gX_6 (v := ρ 6 0) hG (by simp [tv_st]) dX1_read_77 ?_
          refine tv_iconst (x := nI 1) hG dX1_read_80 rfl ?_
          refine tv_iadd hG dX1_read_81 ?_
          refine tv_pX_6 hG dX1_read_82 ?_
          refine tv_iinc (y := nI (i + 1)) (vs1 := [.ref (h 0), .int (nI f), .int (nI (i + 1)), .int (nI ((f * 9) + i)), .int (nI (tv_ar (σ 1 ((f * 9) + i))))]) hG dX1_read_85 rfl (nI_1 _) (by decide) rfl ?_
          refine tv_goto (tgt := 7) hG dX1_read_88 (by decide) ?_
          refine tv_drop (vs1 := [.ref (h 0), .int (nI f), .int (nI (i + 1))]) hG ⟨_, rfl⟩ ?_
          have e : tv_rd σ f (i + 1) = (tv_st (tv_st (tv_st ρ 4 (ρ 6 0) ((f * 9) + i)) 5 (ρ 6 0) (tv_ar (σ 1 ((f * 9) + i)))) 6 0 ((ρ 6 0) + 1)) := by
            show tv_psh (if tv_rd σ f i 6 0 = 0 then tv_rd σ f i else tv_att (tv_rd σ f i) (f * 9 + i)) (f * 9 + i) = _
            rw [if_pos c1, hρ]
            unfold tv_psh
            rw [hJ.2.2.1 1 (by omega)]
            first | rw [if_pos c2] | rw [if_neg (by omega)]
          have hb := ih (i + 1) (by omega)
          rw [e] at hb
          exact hb
      · refine tv_aload_n hG dX1_read_31 rfl rfl ?_
        refine tv_iload_n hG dX1_read_32 rfl rfl ?_
        have htop := hI.2.1 (tv_rd σ f i 6 0 - 1) (by omega)
        refine tv_callxV (As := [.int (nI ((f * 9) + i))]) (st := []) hG (tv_cX_attach l D h d (tv_rd σ f i) ((f * 9) + i) (by omega) (by omega) (by omega) (by omega) (by omega) (by omega)) q117 q119 qs1 q22 q120 (ci := 0) rfl rfl 1 (by decide +kernel) rfl rfl ⟨Nat.le_of_ble_eq_true rfl, Nat.le_of_ble_eq_true rfl⟩ rfl rfl (Nat.le_of_ble_eq_true rfl) dX1_read_33 ?_
        have hJ := tv_rd_att hf hn (show i < σ 2 f by omega) hg hI
        rw [if_neg (by omega)] at hJ
        generalize hρ : tv_att (tv_rd σ f i) ((f * 9) + i) = ρ at hJ ⊢
        have hcnt2 := hJ.1
        refine tv_aload_n hG dX1_read_36 rfl rfl ?_
        refine tv_gX_1 hG dX1_read_37 ?_
        refine tv_iload_n hG dX1_read_40 rfl rfl ?_
        refine tv_lX_1 (v := σ 1 ((f * 9) + i)) hG (by first | exact congrFun (hJ.2.2.1 1 (by omega)) _ | (simp [tv_st]; exact congrFun (hJ.2.2.1 1 (by omega)) _)) dX1_read_41 (by omega) ?_
        refine tv_callSxI (As := [.int (nI (σ 1 ((f * 9) + i)))]) (st := []) hG (tv_cX_wants l D h d ρ (σ 1 ((f * 9) + i)) (ht _ (by omega))) q121 q122 q22 q123 1 (by decide +kernel) rfl rfl ⟨Nat.le_of_ble_eq_true rfl, Nat.le_of_ble_eq_true rfl⟩ rfl rfl (Nat.le_of_ble_eq_true rfl) dX1_read_42 ?_
        have hw2 := tv_ar_le (σ 1 ((f * 9) + i))
        refine tv_istore (vs1 := [.ref (h 0), .int (nI f), .int (nI i), .int (nI ((f * 9) + i)), .int (nI (tv_ar (σ 1 ((f * 9) + i))))]) hG dX1_read_45 (by decide) (Nat.le_of_ble_eq_true rfl) rfl ?_
        refine tv_iload hG dX1_read_47 rfl ?_
        refine tv_if_le (tgt := 85) hG dX1_read_49 (by decide) (by omega) (fun c3 => ?_) (fun c3 => ?_)
        · refine tv_iinc (y := nI (i + 1)) (vs1 := [.ref (h 0), .int (nI f), .int (nI (i + 1)), .int (nI ((f * 9) + i)), .int (nI (tv_ar (σ 1 ((f * 9) + i))))]) hG dX1_read_85 rfl (nI_1 _) (by decide) rfl ?_
          refine tv_goto (tgt := 7) hG dX1_read_88 (by decide) ?_
          refine tv_drop (vs1 := [.ref (h 0), .int (nI f), .int (nI (i + 1))]) hG ⟨_, rfl⟩ ?_
          have e : tv_rd σ f (i + 1) = ρ := by
            show tv_psh (if tv_rd σ f i 6 0 = 0 then tv_rd σ f i else tv_att (tv_rd σ f i) (f * 9 + i)) (f * 9 + i) = _
            rw [if_neg (by omega), hρ]
            unfold tv_psh
            rw [hJ.2.2.1 1 (by omega)]
            first | rw [if_pos c3] | rw [if_neg (by omega)]
          have hb := ih (i + 1) (by omega)
          rw [e] at hb
          exact hb
        · refine tv_aload_n hG dX1_read_52 rfl rfl ?_
          refine tv_gX_4 hG dX1_read_53 ?_
          refine tv_aload_n hG dX1_read_56 rfl rfl ?_
          refine tv_gX_6 (v := ρ 6 0) hG rfl dX1_read_57 ?_
          refine tv_iload_n hG dX1_read_60 rfl rfl ?_
          refine tv_i2b hG dX1_read_61 (by omega) ?_
          refine tv_sX_4 hG dX1_read_62 (by omega) (by omega) ?_
          refine tv_aload_n hG dX1_read_63 rfl rfl ?_
          refine tv_gX_5 hG dX1_read_64 ?_
          refine tv_aload_n hG dX1_read_67 rfl rfl ?_
          refine tv_gX_6 (v := ρ 6 0) hG (by simp [tv_st]) dX1_read_68 ?_
          refine tv_iload hG dX1_read_71 rfl ?_
          refine tv_i2b hG dX1_read_73 (by omega) ?_
          refine tv_sX_5 hG dX1_read_74 (by omega) (by omega) ?_
          refine tv_aload_n hG dX1_read_75 rfl rfl ?_
          refine tv_dup hG dX1_read_76 rfl ?_
          refine tv_gX_6 (v := ρ 6 0) hG (by simp [tv_st]) dX1_read_77 ?_
          refine tv_iconst (x := nI 1) hG dX1_read_80 rfl ?_
          refine tv_iadd hG dX1_read_81 ?_
          refine tv_pX_6 hG dX1_read_82 ?_
          refine tv_iinc (y := nI (i + 1)) (vs1 := [.ref (h 0), .int (nI f), .int (nI (i + 1)), .int (nI ((f * 9) + i)), .int (nI (tv_ar (σ 1 ((f * 9) + i))))]) hG dX1_read_85 rfl (nI_1 _) (by decide) rfl ?_
          refine tv_goto (tgt := 7) hG dX1_read_88 (by decide) ?_
          refine tv_drop (vs1 := [.ref (h 0), .int (nI f), .int (nI (i + 1))]) hG ⟨_, rfl⟩ ?_
          have e : tv_rd σ f (i + 1) = (tv_st (tv_st (tv_st ρ 4 (ρ 6 0) ((f * 9) + i)) 5 (ρ 6 0) (tv_ar (σ 1 ((f * 9) + i)))) 6 0 ((ρ 6 0) + 1)) := by
            show tv_psh (if tv_rd σ f i 6 0 = 0 then tv_rd σ f i else tv_att (tv_rd σ f i) (f * 9 + i)) (f * 9 + i) = _
            rw [if_neg (by omega), hρ]
            unfold tv_psh
            rw [hJ.2.2.1 1 (by omega)]
            first | rw [if_pos c3] | rw [if_neg (by omega)]
          have hb := ih (i + 1) (by omega)
          rw [e] at hb
          exact hb
  exact loop (σ 2 f) 0 (by omega)
set_option maxHeartbeats 4000000 in
theorem tv_cX_complete (l : Launch) (D : va_G) (h : Nat → Nat) (d : Nat → ClassId) (σ : tv_M) (f : Nat) (hf : f < 2) (hn : σ 2 f ≤ 9) (hg : tv_good (σ 1) (f * 9) (σ 2 f)) (ht : ∀ c, c < 18 → σ 1 c < 8) : tv_CI l yX1_complete cX1_complete 2 (some .boolean) ({ frames := 2, cells := 0, slots := 0, locals := 46 } : Room) D (tv_tX d) (tv_wX h d) [.ref (h 0), .int (nI f)] σ (fun z τ => z = nI (if tv_op (σ 1) (f * 9) (σ 2 f) = 0 then 1 else 0) ∧ τ = tv_rd σ f (σ 2 f)) := by
  refine tv_inZ (own := RX1) (by decide) rfl (by simp [Value.category]) (Nat.le_of_ble_eq_true rfl) ?_
  intro G hG hret
  have hE := tv_rd_end hf hn hg
  refine tv_iload_n hG dX1_complete_0 rfl rfl ?_
  refine tv_callSxI (As := [.int (nI f)]) (st := []) hG (tv_cX_isFormula_t l D h d σ f (by omega)) q106 q107 q22 q108 1 (by decide +kernel) rfl rfl ⟨Nat.le_of_ble_eq_true rfl, Nat.le_of_ble_eq_true rfl⟩ rfl rfl (Nat.le_of_ble_eq_true rfl) dX1_complete_1 ?_
  refine tv_if_ne (tgt := 9) hG dX1_complete_4 (by decide) (by omega) (fun _ => ?_) (fun q => absurd q (by decide))
  refine tv_aload_n hG dX1_complete_9 rfl rfl ?_
  refine tv_iload_n hG dX1_complete_10 rfl rfl ?_
  refine tv_callxV (As := [.int (nI f)]) (st := []) hG (tv_cX_read l D h d σ f hf hn hg ht) q113 q115 qs0 q22 q116 (ci := 0) rfl rfl 1 (by decide +kernel) rfl rfl ⟨Nat.le_of_ble_eq_true rfl, Nat.le_of_ble_eq_true rfl⟩ rfl rfl (Nat.le_of_ble_eq_true rfl) dX1_complete_11 ?_
  refine tv_aload_n hG dX1_complete_14 rfl rfl ?_
  refine tv_gX_2 hG dX1_complete_15 ?_
  refine tv_iload_n hG dX1_complete_18 rfl rfl ?_
  refine tv_lX_2 (v := σ 2 f) hG (congrFun (hE.1 2 (by omega)) _) dX1_complete_19 (by omega) ?_
  refine tv_if_le (tgt := 34) hG dX1_complete_20 (by decide) (by omega) (fun c1 => ?_) (fun c1 => ?_)
  · refine tv_iconst (x := nI 0) hG dX1_complete_34 rfl ?_
    exact hret _ _ _ _ dX1_complete_35 (by decide) ⟨by rw [if_neg (fun q => by have := hE.2.2.1.mpr q; omega)], rfl⟩
  · refine tv_aload_n hG dX1_complete_23 rfl rfl ?_
    refine tv_gX_6 (v := (tv_rd σ f (σ 2 f)) 6 0) hG rfl dX1_complete_24 ?_
    refine tv_if_ne (tgt := 34) hG dX1_complete_27 (by decide) (by have := (tv_rd_inv hf hn hg (σ 2 f) (Nat.le_refl _)).1; omega) (fun c2 => ?_) (fun c2 => ?_)
    · refine tv_iconst (x := nI 0) hG dX1_complete_34 rfl ?_
      exact hret _ _ _ _ dX1_complete_35 (by decide) ⟨by rw [if_neg (fun q => by have := hE.2.2.1.mpr q; omega)], rfl⟩
    · refine tv_iconst (x := nI 1) hG dX1_complete_30 rfl ?_
      refine tv_goto (tgt := 35) hG dX1_complete_31 (by decide) ?_
      exact hret _ _ _ _ dX1_complete_35 (by decide) ⟨by rw [if_pos (hE.2.2.1.mp ⟨by omega, by omega⟩)], rfl⟩
set_option maxHeartbeats 4000000 in
theorem tv_cX_complete_f (l : Launch) (D : va_G) (h : Nat → Nat) (d : Nat → ClassId) (σ : tv_M) (g : Int32) (hbad : ¬ (g = 0 ∨ g = 1)) : tv_CI l yX1_complete cX1_complete 2 (some .boolean) ({ frames := 2, cells := 0, slots := 0, locals := 46 } : Room) D (tv_tX d) (tv_wX h d) [.ref (h 0), .int g] σ (fun z τ => z = nI 0 ∧ τ = σ) := by
  refine tv_inZ (own := RX1) (by decide) rfl (by simp [Value.category]) (Nat.le_of_ble_eq_true rfl) ?_
  intro G hG hret
  refine tv_iload_n hG dX1_complete_0 rfl rfl ?_
  refine tv_callSxI (As := [.int g]) (st := []) hG (tv_cX_isFormula_f l D h d σ g hbad) q106 q107 q22 q108 1 (by decide +kernel) rfl rfl ⟨Nat.le_of_ble_eq_true rfl, Nat.le_of_ble_eq_true rfl⟩ rfl rfl (Nat.le_of_ble_eq_true rfl) dX1_complete_1 ?_
  refine tv_if_ne (tgt := 9) hG dX1_complete_4 (by decide) (by omega) (fun q => absurd q (by decide)) (fun _ => ?_)
  refine tv_iconst (x := nI 0) hG dX1_complete_7 rfl ?_
  exact hret _ _ _ _ dX1_complete_8 (by decide) ⟨rfl, rfl⟩
set_option maxHeartbeats 4000000 in
theorem tv_cX_goOn (l : Launch) (D : va_G) (h : Nat → Nat) (d : Nat → ClassId) (σ : tv_M) (ok : Nat → Prop) (sz : Nat → Nat) (V : (Nat → Nat) → Nat → Nat) (lv : Nat) (hF : tv_F σ ok sz V) (hDI : tv_DI ok sz σ lv) : tv_CI l yX1_goOn cX1_goOn 4 (some .int) ({ frames := 2, cells := 0, slots := 0, locals := 45 } : Room) D (tv_tX d) (tv_wX h d) [.ref (h 0)] σ (fun z τ => tv_goP ok sz V lv σ z τ) := by
  refine tv_inI (own := RX1) (by decide) rfl (by simp [Value.category]) (Nat.le_of_ble_eq_true rfl) ?_
  intro G hG hret
  have loop : ∀ (k : Nat) (ρ : tv_M), ρ 10 0 + k = 19 → tv_J ok sz V lv σ ρ → G 0 [.ref (h 0)] [] ρ := by
    intro k
    induction k with
    | zero =>
      intro ρ hk hJ
      have := hJ.2.2.1.2.2.2.1
      exfalso; omega
    | succ k ih =>
      intro ρ hk hJ
      have hFρ : tv_F ρ ok sz V := tv_F_ext hF (hJ.1.1 0 (by omega)) (hJ.1.1 1 (by omega)) (hJ.1.1 3 (by omega))
      have h18 := tv_DI_18 hFρ hJ.2.2.1
      have hle := hJ.2.2.1.1
      refine tv_aload_n hG dX1_goOn_0 rfl rfl ?_
      refine tv_gX_10 (v := ρ 10 0) hG rfl dX1_goOn_1 ?_
      refine tv_aload_n hG dX1_goOn_4 rfl rfl ?_
      refine tv_gX_9 (v := ρ 9 0) hG rfl dX1_goOn_5 ?_
      refine tv_icmp_ge (tgt := 124) hG dX1_goOn_8 (by decide) (by omega) (by omega) (fun c1 => ?_) (fun c1 => ?_)
      · refine tv_iconst (x := nI 1) hG dX1_goOn_124 rfl ?_
        exact hret _ _ _ _ dX1_goOn_125 (Or.inr (Or.inl ⟨rfl, hJ, c1⟩))
      · have hok := hJ.2.2.1.2.1 (ρ 10 0) c1
        have hcell := hFρ.2 _ hok.1
        refine tv_aload_n hG dX1_goOn_11 rfl rfl ?_
        refine tv_gX_7 hG dX1_goOn_12 ?_
        refine tv_aload_n hG dX1_goOn_15 rfl rfl ?_
        refine tv_gX_10 (v := ρ 10 0) hG rfl dX1_goOn_16 ?_
        refine tv_lX_7 (v := ρ 7 (ρ 10 0)) hG rfl dX1_goOn_19 (by omega) ?_
        refine tv_istore_n (vs1 := [.ref (h 0), .int (nI (ρ 7 (ρ 10 0)))]) hG dX1_goOn_20 rfl (by decide) (Nat.le_of_ble_eq_true rfl) rfl ?_
        refine tv_aload_n hG dX1_goOn_21 rfl rfl ?_
        refine tv_gX_1 hG dX1_goOn_22 ?_
        refine tv_iload_n hG dX1_goOn_25 rfl rfl ?_
        refine tv_lX_1 (v := ρ 1 (ρ 7 (ρ 10 0))) hG rfl dX1_goOn_26 (by omega) ?_
        refine tv_istore_n (vs1 := [.ref (h 0), .int (nI (ρ 7 (ρ 10 0))), .int (nI (ρ 1 (ρ 7 (ρ 10 0))))]) hG dX1_goOn_27 rfl (by decide) (Nat.le_of_ble_eq_true rfl) rfl ?_
        refine tv_iload_n hG dX1_goOn_28 rfl rfl ?_
        refine tv_iconst (x := nI 4) hG dX1_goOn_29 rfl ?_
        refine tv_icmp_lt (tgt := 74) hG dX1_goOn_30 (by decide) (by omega) (by omega) (fun c2 => ?_) (fun c2 => ?_)
        · refine tv_iload_n hG dX1_goOn_74 rfl rfl ?_
          refine tv_if_ne (tgt := 109) hG dX1_goOn_75 (by decide) (by omega) (fun c3 => ?_) (fun c3 => ?_)
          · refine tv_iconst (x := nI 2) hG dX1_goOn_109 rfl ?_
            exact hret _ _ _ _ dX1_goOn_110 (Or.inr (Or.inr ⟨rfl, hJ, c1, by omega, by omega⟩))
          · refine tv_aload_n hG dX1_goOn_78 rfl rfl ?_
            refine tv_aload_n hG dX1_goOn_79 rfl rfl ?_
            refine tv_gX_8 hG dX1_goOn_80 ?_
            refine tv_aload_n hG dX1_goOn_83 rfl rfl ?_
            refine tv_gX_10 (v := ρ 10 0) hG rfl dX1_goOn_84 ?_
            refine tv_lX_8 (v := ρ 8 (ρ 10 0)) hG rfl dX1_goOn_87 (by omega) ?_
            refine tv_callxI (As := [.int (nI (ρ 8 (ρ 10 0)))]) (st := []) hG (tv_cX_beforeNot l D h d ρ (ρ 8 (ρ 10 0)) (by omega) hFρ.1) q175 q177 qs10 q22 q178 (ci := 0) rfl rfl 1 (by decide +kernel) rfl rfl ⟨Nat.le_of_ble_eq_true rfl, Nat.le_of_ble_eq_true rfl⟩ rfl rfl (Nat.le_of_ble_eq_true rfl) dX1_goOn_88 ?_
            have hb8 := (tv_bn_bit (ρ 0 0) hFρ.1 (ρ 8 (ρ 10 0)) (by omega)).1
            refine tv_istore_n (vs1 := [.ref (h 0), .int (nI (ρ 7 (ρ 10 0))), .int (nI (ρ 1 (ρ 7 (ρ 10 0)))), .int (nI (tv_bn (ρ 0 0) (ρ 8 (ρ 10 0))))]) hG dX1_goOn_91 rfl (by decide) (Nat.le_of_ble_eq_true rfl) rfl ?_
            refine tv_iload_n hG dX1_goOn_92 rfl rfl ?_
            refine tv_if_ne (tgt := 98) hG dX1_goOn_93 (by decide) (by omega) (fun c4 => ?_) (fun c4 => ?_)
            · refine tv_aload_n hG dX1_goOn_98 rfl rfl ?_
              refine tv_iload_n hG dX1_goOn_99 rfl rfl ?_
              refine tv_iconst (x := nI 1) hG dX1_goOn_100 rfl ?_
              refine tv_iadd hG dX1_goOn_101 ?_
              refine tv_iload_n hG dX1_goOn_102 rfl rfl ?_
              refine tv_callxV (As := [.int (nI ((ρ 7 (ρ 10 0)) + 1)), .int (nI (tv_bn (ρ 0 0) (ρ 8 (ρ 10 0))))]) (st := []) hG (tv_cX_demand l D h d ρ ((ρ 7 (ρ 10 0)) + 1) (tv_bn (ρ 0 0) (ρ 8 (ρ 10 0))) (by omega) (by omega) (by omega)) q167 q169 qs8 q22 q170 (ci := 0) rfl rfl 2 (by decide +kernel) rfl rfl ⟨Nat.le_of_ble_eq_true rfl, Nat.le_of_ble_eq_true rfl⟩ rfl rfl (Nat.le_of_ble_eq_true rfl) dX1_goOn_103 ?_
              refine tv_goto (tgt := 111) hG dX1_goOn_106 (by decide) ?_
              refine tv_aload_n hG dX1_goOn_111 rfl rfl ?_
              refine tv_dup hG dX1_goOn_112 rfl ?_
              refine tv_gX_10 (v := ρ 10 0) hG (by simp [tv_st, tv_dem_k, tv_rs]) dX1_goOn_113 ?_
              refine tv_iconst (x := nI 1) hG dX1_goOn_116 rfl ?_
              refine tv_iadd hG dX1_goOn_117 ?_
              refine tv_pX_10 hG dX1_goOn_118 ?_
              refine tv_goto (tgt := 0) hG dX1_goOn_121 (by decide) ?_
              refine tv_drop (vs1 := [.ref (h 0)]) hG ⟨_, rfl⟩ ?_
              exact ih _ (by simp [tv_st]; omega) ((tv_go_not hFρ hJ c1 (by omega)).2 c4)
            · refine tv_iconst (x := nI 0) hG dX1_goOn_96 rfl ?_
              exact hret _ _ _ _ dX1_goOn_97 ((tv_go_not hFρ hJ c1 (by omega)).1 c4)
        · have hand := tv_and_lt (ρ 11 (ρ 1 (ρ 7 (ρ 10 0)) - 4)) (hJ.2.2.1.2.2.1 _ (by omega)).2 (ρ 8 (ρ 10 0)) hok.2.2
          refine tv_iload_n hG dX1_goOn_33 rfl rfl ?_
          refine tv_iconst (x := nI 4) hG dX1_goOn_34 rfl ?_
          refine tv_isub hG dX1_goOn_35 (by omega) ?_
          refine tv_istore_n (vs1 := [.ref (h 0), .int (nI (ρ 7 (ρ 10 0))), .int (nI (ρ 1 (ρ 7 (ρ 10 0)))), .int (nI ((ρ 1 (ρ 7 (ρ 10 0))) - 4))]) hG dX1_goOn_36 rfl (by decide) (Nat.le_of_ble_eq_true rfl) rfl ?_
          refine tv_aload_n hG dX1_goOn_37 rfl rfl ?_
          refine tv_gX_11 hG dX1_goOn_38 ?_
          refine tv_iload_n hG dX1_goOn_41 rfl rfl ?_
          refine tv_aload_n hG dX1_goOn_42 rfl rfl ?_
          refine tv_gX_11 hG dX1_goOn_43 ?_
          refine tv_iload_n hG dX1_goOn_46 rfl rfl ?_
          refine tv_lX_11 (v := ρ 11 ((ρ 1 (ρ 7 (ρ 10 0))) - 4)) hG rfl dX1_goOn_47 (by omega) ?_
          refine tv_aload_n hG dX1_goOn_48 rfl rfl ?_
          refine tv_gX_8 hG dX1_goOn_49 ?_
          refine tv_aload_n hG dX1_goOn_52 rfl rfl ?_
          refine tv_gX_10 (v := ρ 10 0) hG rfl dX1_goOn_53 ?_
          refine tv_lX_8 (v := ρ 8 (ρ 10 0)) hG rfl dX1_goOn_56 (by omega) ?_
          refine tv_iand hG dX1_goOn_57 ?_
          refine tv_i2b hG dX1_goOn_58 (by omega) ?_
          refine tv_sX_11 hG dX1_goOn_59 (by omega) (by omega) ?_
          refine tv_aload_n hG dX1_goOn_60 rfl rfl ?_
          refine tv_gX_11 hG dX1_goOn_61 ?_
          refine tv_iload_n hG dX1_goOn_64 rfl rfl ?_
          refine tv_lX_11 (v := (ρ 11 ((ρ 1 (ρ 7 (ρ 10 0))) - 4)) &&& (ρ 8 (ρ 10 0))) hG (by simp [tv_st]) dX1_goOn_65 (by omega) ?_
          refine tv_if_ne (tgt := 71) hG dX1_goOn_66 (by decide) (by omega) (fun c5 => ?_) (fun c5 => ?_)
          · refine tv_goto (tgt := 111) hG dX1_goOn_71 (by decide) ?_
            refine tv_aload_n hG dX1_goOn_111 rfl rfl ?_
            refine tv_dup hG dX1_goOn_112 rfl ?_
            refine tv_gX_10 (v := ρ 10 0) hG (by simp [tv_st]) dX1_goOn_113 ?_
            refine tv_iconst (x := nI 1) hG dX1_goOn_116 rfl ?_
            refine tv_iadd hG dX1_goOn_117 ?_
            refine tv_pX_10 hG dX1_goOn_118 ?_
            refine tv_goto (tgt := 0) hG dX1_goOn_121 (by decide) ?_
            refine tv_drop (vs1 := [.ref (h 0)]) hG ⟨_, rfl⟩ ?_
            exact ih _ (by simp [tv_st]; omega) ((tv_go_letter hFρ hJ c1 (by omega)).2 c5)
          · refine tv_iconst (x := nI 0) hG dX1_goOn_69 rfl ?_
            exact hret _ _ _ _ dX1_goOn_70 ((tv_go_letter hFρ hJ c1 (by omega)).1 c5)
  exact loop (19 - σ 10 0) σ (by have := hDI.2.2.2.1; omega) (tv_J_0 hDI)
/-- behind the turn to x at a branch -/
def tv_trn (σ : tv_M) (lv x : Nat) : tv_M := tv_st (tv_dem (tv_dem (tv_st (tv_rs σ lv) 15 lv (x + 1)) (σ 7 (σ 13 lv) + 1) (1 * 2 ^ x)) (σ 3 (σ 7 (σ 13 lv))) (tv_pn (σ 0 0) (σ 1 (σ 7 (σ 13 lv))) x (σ 8 (σ 13 lv)))) 10 0 (σ 13 lv + 1)
def tv_ntP (σ : tv_M) (lv : Nat) (z : Int32) (τ : tv_M) : Prop :=
  (z = nI 0 ∧ τ = tv_rs σ lv ∧ ∀ y, σ 15 lv ≤ y → y < 3 → tv_pn (σ 0 0) (σ 1 (σ 7 (σ 13 lv))) y (σ 8 (σ 13 lv)) = 0) ∨
  (∃ x, z = nI 1 ∧ σ 15 lv ≤ x ∧ x < 3 ∧ tv_pn (σ 0 0) (σ 1 (σ 7 (σ 13 lv))) x (σ 8 (σ 13 lv)) ≠ 0 ∧ (∀ y, σ 15 lv ≤ y → y < x → tv_pn (σ 0 0) (σ 1 (σ 7 (σ 13 lv))) y (σ 8 (σ 13 lv)) = 0) ∧ τ = tv_trn σ lv x)
set_option maxHeartbeats 4000000 in
theorem tv_cX_nextTurn (l : Launch) (D : va_G) (h : Nat → Nat) (d : Nat → ClassId) (σ : tv_M) (lv : Nat) (hlv : lv < 12) (hlg : σ 0 0 < 3) (h12 : σ 12 lv ≤ 18) (h13 : σ 13 lv < 32) (hc : σ 7 (σ 13 lv) < 18) (ht : σ 1 (σ 7 (σ 13 lv)) < 4) (hv : σ 8 (σ 13 lv) < 8) (hs : σ 3 (σ 7 (σ 13 lv)) < 128) (h15 : σ 15 lv ≤ 3) (h0 : σ 14 (lv * 4 + 0) < 128) (h1 : σ 14 (lv * 4 + 1) < 128) (h2 : σ 14 (lv * 4 + 2) < 128) (h3 : σ 14 (lv * 4 + 3) < 128) : tv_CI l yX1_nextTurn cX1_nextTurn 5 (some .boolean) ({ frames := 2, cells := 0, slots := 0, locals := 49 } : Room) D (tv_tX d) (tv_wX h d) [.ref (h 0), .int (nI lv)] σ (fun z τ => tv_ntP σ lv z τ) := by
  refine tv_inZ (own := RX1) (by decide) rfl (by simp [Value.category]) (Nat.le_of_ble_eq_true rfl) ?_
  intro G hG hret
  refine tv_aload_n hG dX1_nextTurn_0 rfl rfl ?_
  refine tv_aload_n hG dX1_nextTurn_1 rfl rfl ?_
  refine tv_gX_12 hG dX1_nextTurn_2 ?_
  refine tv_iload_n hG dX1_nextTurn_5 rfl rfl ?_
  refine tv_lX_12 (v := σ 12 lv) hG rfl dX1_nextTurn_6 (by omega) ?_
  refine tv_pX_9 hG dX1_nextTurn_7 ?_
  refine tv_aload_n hG dX1_nextTurn_10 rfl rfl ?_
  refine tv_aload_n hG dX1_nextTurn_11 rfl rfl ?_
  refine tv_gX_13 hG dX1_nextTurn_12 ?_
  refine tv_iload_n hG dX1_nextTurn_15 rfl rfl ?_
  refine tv_lX_13 (v := σ 13 lv) hG (by simp [tv_st]) dX1_nextTurn_16 (by omega) ?_
  refine tv_pX_10 hG dX1_nextTurn_17 ?_
  refine tv_iconst (x := nI 0) hG dX1_nextTurn_20 rfl ?_
  refine tv_istore_n (vs1 := [.ref (h 0), .int (nI lv), .int (nI 0)]) hG dX1_nextTurn_21 rfl (by decide) (Nat.le_of_ble_eq_true rfl) rfl ?_
  refine tv_iload_n hG dX1_nextTurn_22 rfl rfl ?_
  refine tv_iconst (x := nI 4) hG dX1_nextTurn_23 rfl ?_
  refine tv_icmp_ge (tgt := 49) hG dX1_nextTurn_24 (by decide) (by omega) (by omega) (fun q => absurd q (by decide)) (fun _ => ?_)
  refine tv_aload_n hG dX1_nextTurn_27 rfl rfl ?_
  refine tv_gX_11 hG dX1_nextTurn_28 ?_
  refine tv_iload_n hG dX1_nextTurn_31 rfl rfl ?_
  refine tv_aload_n hG dX1_nextTurn_32 rfl rfl ?_
  refine tv_gX_14 hG dX1_nextTurn_33 ?_
  refine tv_iload_n hG dX1_nextTurn_36 rfl rfl ?_
  refine tv_iconst (x := nI 4) hG dX1_nextTurn_37 rfl ?_
  refine tv_imul hG dX1_nextTurn_38 ?_
  refine tv_iload_n hG dX1_nextTurn_39 rfl rfl ?_
  refine tv_iadd hG dX1_nextTurn_40 ?_
  refine tv_lX_14 (v := σ 14 ((lv * 4) + 0)) hG (by simp [tv_st]) dX1_nextTurn_41 (by omega) ?_
  refine tv_sX_11 hG dX1_nextTurn_42 (by omega) (by omega) ?_
  refine tv_iinc (y := nI 1) (vs1 := [.ref (h 0), .int (nI lv), .int (nI 1)]) hG dX1_nextTurn_43 rfl (nI_1 _) (by decide) rfl ?_
  refine tv_goto (tgt := 22) hG dX1_nextTurn_46 (by decide) ?_
  refine tv_iload_n hG dX1_nextTurn_22 rfl rfl ?_
  refine tv_iconst (x := nI 4) hG dX1_nextTurn_23 rfl ?_
  refine tv_icmp_ge (tgt := 49) hG dX1_nextTurn_24 (by decide) (by omega) (by omega) (fun q => absurd q (by decide)) (fun _ => ?_)
  refine tv_aload_n hG dX1_nextTurn_27 rfl rfl ?_
  refine tv_gX_11 hG dX1_nextTurn_28 ?_
  refine tv_iload_n hG dX1_nextTurn_31 rfl rfl ?_
  refine tv_aload_n hG dX1_nextTurn_32 rfl rfl ?_
  refine tv_gX_14 hG dX1_nextTurn_33 ?_
  refine tv_iload_n hG dX1_nextTurn_36 rfl rfl ?_
  refine tv_iconst (x := nI 4) hG dX1_nextTurn_37 rfl ?_
  refine tv_imul hG dX1_nextTurn_38 ?_
  refine tv_iload_n hG dX1_nextTurn_39 rfl rfl ?_
  refine tv_iadd hG dX1_nextTurn_40 ?_
  refine tv_lX_14 (v := σ 14 ((lv * 4) + 1)) hG (by simp [tv_st]) dX1_nextTurn_41 (by omega) ?_
  refine tv_sX_11 hG dX1_nextTurn_42 (by omega) (by omega) ?_
  refine tv_iinc (y := nI 2) (vs1 := [.ref (h 0), .int (nI lv), .int (nI 2)]) hG dX1_nextTurn_43 rfl (nI_1 _) (by decide) rfl ?_
  refine tv_goto (tgt := 22) hG dX1_nextTurn_46 (by decide) ?_
  refine tv_iload_n hG dX1_nextTurn_22 rfl rfl ?_
  refine tv_iconst (x := nI 4) hG dX1_nextTurn_23 rfl ?_
  refine tv_icmp_ge (tgt := 49) hG dX1_nextTurn_24 (by decide) (by omega) (by omega) (fun q => absurd q (by decide)) (fun _ => ?_)
  refine tv_aload_n hG dX1_nextTurn_27 rfl rfl ?_
  refine tv_gX_11 hG dX1_nextTurn_28 ?_
  refine tv_iload_n hG dX1_nextTurn_31 rfl rfl ?_
  refine tv_aload_n hG dX1_nextTurn_32 rfl rfl ?_
  refine tv_gX_14 hG dX1_nextTurn_33 ?_
  refine tv_iload_n hG dX1_nextTurn_36 rfl rfl ?_
  refine tv_iconst (x := nI 4) hG dX1_nextTurn_37 rfl ?_
  refine tv_imul hG dX1_nextTurn_38 ?_
  refine tv_iload_n hG dX1_nextTurn_39 rfl rfl ?_
  refine tv_iadd hG dX1_nextTurn_40 ?_
  refine tv_lX_14 (v := σ 14 ((lv * 4) + 2)) hG (by simp [tv_st]) dX1_nextTurn_41 (by omega) ?_
  refine tv_sX_11 hG dX1_nextTurn_42 (by omega) (by omega) ?_
  refine tv_iinc (y := nI 3) (vs1 := [.ref (h 0), .int (nI lv), .int (nI 3)]) hG dX1_nextTurn_43 rfl (nI_1 _) (by decide) rfl ?_
  refine tv_goto (tgt := 22) hG dX1_nextTurn_46 (by decide) ?_
  refine tv_iload_n hG dX1_nextTurn_22 rfl rfl ?_
  refine tv_iconst (x := nI 4) hG dX1_nextTurn_23 rfl ?_
  refine tv_icmp_ge (tgt := 49) hG dX1_nextTurn_24 (by decide) (by omega) (by omega) (fun q => absurd q (by decide)) (fun _ => ?_)
  refine tv_aload_n hG dX1_nextTurn_27 rfl rfl ?_
  refine tv_gX_11 hG dX1_nextTurn_28 ?_
  refine tv_iload_n hG dX1_nextTurn_31 rfl rfl ?_
  refine tv_aload_n hG dX1_nextTurn_32 rfl rfl ?_
  refine tv_gX_14 hG dX1_nextTurn_33 ?_
  refine tv_iload_n hG dX1_nextTurn_36 rfl rfl ?_
  refine tv_iconst (x := nI 4) hG dX1_nextTurn_37 rfl ?_
  refine tv_imul hG dX1_nextTurn_38 ?_
  refine tv_iload_n hG dX1_nextTurn_39 rfl rfl ?_
  refine tv_iadd hG dX1_nextTurn_40 ?_
  refine tv_lX_14 (v := σ 14 ((lv * 4) + 3)) hG (by simp [tv_st]) dX1_nextTurn_41 (by omega) ?_
  refine tv_sX_11 hG dX1_nextTurn_42 (by omega) (by omega) ?_
  refine tv_iinc (y := nI 4) (vs1 := [.ref (h 0), .int (nI lv), .int (nI 4)]) hG dX1_nextTurn_43 rfl (nI_1 _) (by decide) rfl ?_
  refine tv_goto (tgt := 22) hG dX1_nextTurn_46 (by decide) ?_
  refine tv_iload_n hG dX1_nextTurn_22 rfl rfl ?_
  refine tv_iconst (x := nI 4) hG dX1_nextTurn_23 rfl ?_
  refine tv_icmp_ge (tgt := 49) hG dX1_nextTurn_24 (by decide) (by omega) (by omega) (fun _ => ?_) (fun q => absurd q (by decide))
  refine tv_aload_n hG dX1_nextTurn_49 rfl rfl ?_
  refine tv_gX_7 hG dX1_nextTurn_50 ?_
  refine tv_aload_n hG dX1_nextTurn_53 rfl rfl ?_
  refine tv_gX_10 (v := σ 13 lv) hG (by simp [tv_st]) dX1_nextTurn_54 ?_
  refine tv_lX_7 (v := σ 7 (σ 13 lv)) hG (by simp [tv_st]) dX1_nextTurn_57 (by omega) ?_
  refine tv_istore_n (vs1 := [.ref (h 0), .int (nI lv), .int (nI (σ 7 (σ 13 lv)))]) hG dX1_nextTurn_58 rfl (by decide) (Nat.le_of_ble_eq_true rfl) rfl ?_
  refine tv_aload_n hG dX1_nextTurn_59 rfl rfl ?_
  refine tv_gX_15 hG dX1_nextTurn_60 ?_
  refine tv_iload_n hG dX1_nextTurn_63 rfl rfl ?_
  refine tv_lX_15 (v := σ 15 lv) hG (by simp [tv_st]) dX1_nextTurn_64 (by omega) ?_
  refine tv_iconst (x := nI 1) hG dX1_nextTurn_65 rfl ?_
  refine tv_ziadd (z := (nI (σ 15 lv))) hG dX1_nextTurn_66 (tv_pred _) ?_
  refine tv_istore_n (vs1 := [.ref (h 0), .int (nI lv), .int (nI (σ 7 (σ 13 lv))), .int (nI (σ 15 lv))]) hG dX1_nextTurn_67 rfl (by decide) (Nat.le_of_ble_eq_true rfl) rfl ?_
  have loop : ∀ (k x : Nat), x + k = 3 → σ 15 lv ≤ x → (∀ y, σ 15 lv ≤ y → y < x → tv_pn (σ 0 0) (σ 1 (σ 7 (σ 13 lv))) y (σ 8 (σ 13 lv)) = 0) → G 68 [.ref (h 0), .int (nI lv), .int (nI (σ 7 (σ 13 lv))), .int (nI x)] [] (tv_rs σ lv) := by
    intro k
    induction k with
    | zero =>
      intro x hx h15 hno
      refine tv_iload_n hG dX1_nextTurn_68 rfl rfl ?_
      refine tv_iconst (x := nI 3) hG dX1_nextTurn_69 rfl ?_
      refine tv_icmp_ge (tgt := 148) hG dX1_nextTurn_70 (by decide) (by omega) (by omega) (fun _ => ?_) (fun q => by exfalso; omega)
      refine tv_iconst (x := nI 0) hG dX1_nextTurn_148 rfl ?_
      exact hret _ _ _ _ dX1_nextTurn_149 (by decide) (Or.inl ⟨rfl, rfl, fun y h1 h2 => hno y h1 (by omega)⟩)
    | succ k ih =>
      intro x hx h15 hno
      refine tv_iload_n hG dX1_nextTurn_68 rfl rfl ?_
      refine tv_iconst (x := nI 3) hG dX1_nextTurn_69 rfl ?_
      refine tv_icmp_ge (tgt := 148) hG dX1_nextTurn_70 (by decide) (by omega) (by omega) (fun q => by exfalso; omega) (fun _ => ?_)
      refine tv_aload_n hG dX1_nextTurn_73 rfl rfl ?_
      refine tv_aload_n hG dX1_nextTurn_74 rfl rfl ?_
      refine tv_gX_1 hG dX1_nextTurn_75 ?_
      refine tv_iload_n hG dX1_nextTurn_78 rfl rfl ?_
      refine tv_lX_1 (v := σ 1 (σ 7 (σ 13 lv))) hG (by simp [tv_rs, tv_st]) dX1_nextTurn_79 (by omega) ?_
      refine tv_iload_n hG dX1_nextTurn_80 rfl rfl ?_
      refine tv_aload_n hG dX1_nextTurn_81 rfl rfl ?_
      refine tv_gX_8 hG dX1_nextTurn_82 ?_
      refine tv_aload_n hG dX1_nextTurn_85 rfl rfl ?_
      refine tv_gX_10 (v := σ 13 lv) hG (by simp [tv_rs, tv_st]) dX1_nextTurn_86 ?_
      refine tv_lX_8 (v := σ 8 (σ 13 lv)) hG (by simp [tv_rs, tv_st]) dX1_nextTurn_89 (by omega) ?_
      refine tv_callxI (As := [.int (nI (σ 1 (σ 7 (σ 13 lv)))), .int (nI x), .int (nI (σ 8 (σ 13 lv)))]) (st := []) hG (tv_cX_partners l D h d (tv_rs σ lv) (σ 1 (σ 7 (σ 13 lv))) x (σ 8 (σ 13 lv)) (by omega) (by omega) (by omega) hlg) q188 q190 qs13 q22 q191 (ci := 0) rfl rfl 3 (by decide +kernel) rfl rfl ⟨Nat.le_of_ble_eq_true rfl, Nat.le_of_ble_eq_true rfl⟩ rfl rfl (Nat.le_of_ble_eq_true rfl) dX1_nextTurn_90 ?_
      have hp8 := (tv_pn_bit (σ 0 0) hlg (σ 1 (σ 7 (σ 13 lv))) (by omega) x (by omega) (σ 8 (σ 13 lv)) (by omega)).1
      refine tv_istore (vs1 := [.ref (h 0), .int (nI lv), .int (nI (σ 7 (σ 13 lv))), .int (nI x), .int (nI (tv_pn (σ 0 0) (σ 1 (σ 7 (σ 13 lv))) x (σ 8 (σ 13 lv))))]) hG dX1_nextTurn_93 (by decide) (Nat.le_of_ble_eq_true rfl) rfl ?_
      refine tv_iload hG dX1_nextTurn_95 rfl ?_
      refine tv_if_eq (tgt := 142) hG dX1_nextTurn_97 (by decide) (by omega) (fun c1 => ?_) (fun c1 => ?_)
      · refine tv_iinc (y := nI (x + 1)) (vs1 := [.ref (h 0), .int (nI lv), .int (nI (σ 7 (σ 13 lv))), .int (nI (x + 1)), .int (nI (tv_pn (σ 0 0) (σ 1 (σ 7 (σ 13 lv))) x (σ 8 (σ 13 lv))))]) hG dX1_nextTurn_142 rfl (nI_1 _) (by decide) rfl ?_
        refine tv_goto (tgt := 68) hG dX1_nextTurn_145 (by decide) ?_
        refine tv_drop (vs1 := [.ref (h 0), .int (nI lv), .int (nI (σ 7 (σ 13 lv))), .int (nI (x + 1))]) hG ⟨_, rfl⟩ ?_
        refine ih (x + 1) (by omega) (by omega) (fun y h1 h2 => ?_)
        rcases Nat.lt_or_ge y x with q | q
        · exact hno y h1 q
        · rw [show y = x by omega]; exact c1
      · refine tv_aload_n hG dX1_nextTurn_100 rfl rfl ?_
        refine tv_gX_15 hG dX1_nextTurn_101 ?_
        refine tv_iload_n hG dX1_nextTurn_104 rfl rfl ?_
        refine tv_iload_n hG dX1_nextTurn_105 rfl rfl ?_
        refine tv_i2b hG dX1_nextTurn_106 (by omega) ?_
        refine tv_sX_15 (v := x + 1) hG (nI_pred x).symm dX1_nextTurn_107 (by omega) (by omega) ?_
        refine tv_aload_n hG dX1_nextTurn_108 rfl rfl ?_
        refine tv_iload_n hG dX1_nextTurn_109 rfl rfl ?_
        refine tv_iconst (x := nI 1) hG dX1_nextTurn_110 rfl ?_
        refine tv_iadd hG dX1_nextTurn_111 ?_
        refine tv_iconst (x := nI 1) hG dX1_nextTurn_112 rfl ?_
        refine tv_iload_n hG dX1_nextTurn_113 rfl rfl ?_
        refine tv_ishl hG dX1_nextTurn_114 (by omega) (tv_shlt (by omega) (by omega)) ?_
        refine tv_callxV (As := [.int (nI ((σ 7 (σ 13 lv)) + 1)), .int (nI (1 * 2 ^ x))]) (st := []) hG (tv_cX_demand l D h d (tv_st (tv_rs σ lv) 15 lv (x + 1)) ((σ 7 (σ 13 lv)) + 1) (1 * 2 ^ x) (by omega) (by rcases (show x = 0 ∨ x = 1 ∨ x = 2 by omega) with q | q | q <;> (rw [q]; decide)) (by simp [tv_rs, tv_st]; omega)) q167 q169 qs8 q22 q170 (ci := 0) rfl rfl 2 (by decide +kernel) rfl rfl ⟨Nat.le_of_ble_eq_true rfl, Nat.le_of_ble_eq_true rfl⟩ rfl rfl (Nat.le_of_ble_eq_true rfl) dX1_nextTurn_115 ?_
        refine tv_aload_n hG dX1_nextTurn_118 rfl rfl ?_
        refine tv_aload_n hG dX1_nextTurn_119 rfl rfl ?_
        refine tv_gX_3 hG dX1_nextTurn_120 ?_
        refine tv_iload_n hG dX1_nextTurn_123 rfl rfl ?_
        refine tv_lX_3 (v := σ 3 (σ 7 (σ 13 lv))) hG (by simp [tv_st, tv_dem_k, tv_rs]) dX1_nextTurn_124 (by omega) ?_
        refine tv_iload hG dX1_nextTurn_125 rfl ?_
        refine tv_callxV (As := [.int (nI (σ 3 (σ 7 (σ 13 lv)))), .int (nI (tv_pn (σ 0 0) (σ 1 (σ 7 (σ 13 lv))) x (σ 8 (σ 13 lv))))]) (st := []) hG (tv_cX_demand l D h d (tv_dem (tv_st (tv_rs σ lv) 15 lv (x + 1)) ((σ 7 (σ 13 lv)) + 1) (1 * 2 ^ x)) (σ 3 (σ 7 (σ 13 lv))) (tv_pn (σ 0 0) (σ 1 (σ 7 (σ 13 lv))) x (σ 8 (σ 13 lv))) (by omega) (by omega) (by rw [(tv_dem_ok (by simp [tv_rs, tv_st]; omega)).1]; simp [tv_rs, tv_st]; omega)) q167 q169 qs8 q22 q170 (ci := 0) rfl rfl 2 (by decide +kernel) rfl rfl ⟨Nat.le_of_ble_eq_true rfl, Nat.le_of_ble_eq_true rfl⟩ rfl rfl (Nat.le_of_ble_eq_true rfl) dX1_nextTurn_127 ?_
        refine tv_aload_n hG dX1_nextTurn_130 rfl rfl ?_
        refine tv_dup hG dX1_nextTurn_131 rfl ?_
        refine tv_gX_10 (v := σ 13 lv) hG (by simp [tv_st, tv_dem_k, tv_rs]) dX1_nextTurn_132 ?_
        refine tv_iconst (x := nI 1) hG dX1_nextTurn_135 rfl ?_
        refine tv_iadd hG dX1_nextTurn_136 ?_
        refine tv_pX_10 hG dX1_nextTurn_137 ?_
        refine tv_iconst (x := nI 1) hG dX1_nextTurn_140 rfl ?_
        exact hret _ _ _ _ dX1_nextTurn_141 (by decide) (Or.inr ⟨x, rfl, h15, by omega, c1, hno, rfl⟩)
  exact loop (3 - σ 15 lv) (σ 15 lv) (by omega) (Nat.le_refl _) (fun y h1 h2 => by omega)
end
section
set_option maxRecDepth 100000
/-! PURE: branches and their levels -/
theorem tv_rs_9 (σ : tv_M) (i : Nat) : tv_rs σ i 9 0 = σ 12 i := by simp [tv_rs, tv_st]
theorem tv_rs_10 (σ : tv_M) (i : Nat) : tv_rs σ i 10 0 = σ 13 i := by simp [tv_rs, tv_st]
theorem tv_rs_11 (σ : tv_M) (i : Nat) : ∀ l, l < 4 → tv_rs σ i 11 l = σ 14 (i * 4 + l) := by
  intro l hl
  rcases (show l = 0 ∨ l = 1 ∨ l = 2 ∨ l = 3 by omega) with rfl | rfl | rfl | rfl <;> simp [tv_rs, tv_st]
theorem tv_rs_k {σ : tv_M} {i q : Nat} (h : q < 9 ∨ 11 < q) : tv_rs σ i q = σ q := by
  unfold tv_rs
  rw [tv_st_k (by omega), tv_st_k (by omega), tv_st_k (by omega), tv_st_k (by omega), tv_st_k (by omega), tv_st_k (by omega)]
section
variable {ok : Nat → Prop} {sz : Nat → Nat} {V : (Nat → Nat) → Nat → Nat} {T : (Nat → Nat) → Prop} {lv : Nat}
theorem tv_Sat_ext {σ τ : tv_M} {a : Nat → Nat} (h9 : τ 9 0 = σ 9 0) (h10 : τ 10 0 = σ 10 0) (h11 : ∀ l, l < 4 → τ 11 l = σ 11 l) (h7 : ∀ i, i < σ 9 0 → τ 7 i = σ 7 i ∧ τ 8 i = σ 8 i) : tv_Sat V a τ ↔ tv_Sat V a σ := by
  unfold tv_Sat
  rw [h9, h10]
  constructor
  · intro h
    refine ⟨fun l hl => ?_, fun i h1 h2 => ?_⟩
    · have q := h.1 l hl
      rw [h11 l hl] at q
      exact q
    · have q := h.2 i h1 h2
      rw [(h7 i h2).1, (h7 i h2).2] at q
      exact q
  · intro h
    refine ⟨fun l hl => ?_, fun i h1 h2 => ?_⟩
    · rw [h11 l hl]
      exact h.1 l hl
    · rw [(h7 i h2).1, (h7 i h2).2]
      exact h.2 i h1 h2
theorem tv_DI_ext {σ τ : tv_M} (h9 : τ 9 0 = σ 9 0) (h10 : τ 10 0 = σ 10 0) (h11 : ∀ l, l < 4 → τ 11 l = σ 11 l) (h7 : ∀ i, i < σ 9 0 → τ 7 i = σ 7 i ∧ τ 8 i = σ 8 i) (h : tv_DI ok sz σ lv) : tv_DI ok sz τ lv := by
  obtain ⟨d1, d2, d3, d4, d5⟩ := h
  unfold tv_DI
  rw [h9, h10]
  have e : tv_S sz (τ 7) (σ 10 0) (σ 9 0 - σ 10 0) = tv_S sz (σ 7) (σ 10 0) (σ 9 0 - σ 10 0) := tv_S_ext _ (fun k hk => (h7 _ (by omega)).1)
  rw [e]
  refine ⟨d1, fun i hi => ?_, fun l hl => ?_, d4, d5⟩
  · rw [(h7 i hi).1, (h7 i hi).2]
    exact d2 i hi
  · rw [h11 l hl]
    exact d3 l hl
/-- the branch at level i is as it was -/
def tv_same (σ τ : tv_M) (i : Nat) : Prop := τ 12 i = σ 12 i ∧ τ 13 i = σ 13 i ∧ (∀ l, l < 4 → τ 14 (i * 4 + l) = σ 14 (i * 4 + l)) ∧ (∀ j, j < σ 12 i → τ 7 j = σ 7 j ∧ τ 8 j = σ 8 j) ∧ τ 1 = σ 1
theorem tv_same_Sat {σ τ : tv_M} {i : Nat} (h : tv_same σ τ i) (a : Nat → Nat) : tv_Sat V a (tv_rs τ i) ↔ tv_Sat V a (tv_rs σ i) := by
  obtain ⟨h1, h2, h3, h4, -⟩ := h
  refine tv_Sat_ext (by rw [tv_rs_9, tv_rs_9, h1]) (by rw [tv_rs_10, tv_rs_10, h2]) (fun l hl => by rw [tv_rs_11 _ _ l hl, tv_rs_11 _ _ l hl, h3 l hl]) (fun j hj => ?_)
  rw [tv_rs_9] at hj
  rw [tv_rs_k (by decide), tv_rs_k (by decide), tv_rs_k (by decide), tv_rs_k (by decide)]
  exact h4 j hj
def tv_Lv (ok : Nat → Prop) (sz : Nat → Nat) (V : (Nat → Nat) → Nat → Nat) (T : (Nat → Nat) → Prop) (σ : tv_M) (i : Nat) : Prop :=
  tv_DI ok sz (tv_rs σ i) i ∧ σ 13 i < σ 12 i ∧ 0 < σ 1 (σ 7 (σ 13 i)) ∧ σ 1 (σ 7 (σ 13 i)) < 4 ∧ σ 15 i ≤ 3 ∧ ∀ a, tv_Sat V a (tv_rs σ i) → T a
def tv_Rem (V : (Nat → Nat) → Nat → Nat) (σ : tv_M) (i : Nat) (a : Nat → Nat) : Prop := tv_Sat V a (tv_rs σ i) ∧ σ 15 i ≤ V a (σ 7 (σ 13 i) + 1)
theorem tv_Lv_ext {σ τ : tv_M} {i : Nat} (h : tv_same σ τ i) (h15 : τ 15 i ≤ 3) (hL : tv_Lv ok sz V T σ i) : tv_Lv ok sz V T τ i := by
  obtain ⟨l1, l2, l3, l4, l5, l6⟩ := hL
  have hs := h
  obtain ⟨h1, h2, h3, h4, h5⟩ := h
  refine ⟨?_, by omega, ?_, ?_, h15, fun a ha => l6 a ((tv_same_Sat hs a).mp ha)⟩
  · refine tv_DI_ext (by rw [tv_rs_9, tv_rs_9, h1]) (by rw [tv_rs_10, tv_rs_10, h2]) (fun l hl => by rw [tv_rs_11 _ _ l hl, tv_rs_11 _ _ l hl, h3 l hl]) (fun j hj => ?_) l1
    rw [tv_rs_9] at hj
    rw [tv_rs_k (by decide), tv_rs_k (by decide), tv_rs_k (by decide), tv_rs_k (by decide)]
    exact h4 j hj
  · rw [h2, (h4 _ l2).1, h5]; exact l3
  · rw [h2, (h4 _ l2).1, h5]; exact l4
theorem tv_Rem_ext {σ τ : tv_M} {i : Nat} {a : Nat → Nat} (h : tv_same σ τ i) (h15 : τ 15 i = σ 15 i) (hl : σ 13 i < σ 12 i) (hR : tv_Rem V σ i a) : tv_Rem V τ i a := by
  refine ⟨(tv_same_Sat h a).mpr hR.1, ?_⟩
  rw [h15, h.2.1, (h.2.2.2.1 _ hl).1]
  exact hR.2
def tv_B (ok : Nat → Prop) (sz : Nat → Nat) (V : (Nat → Nat) → Nat → Nat) (T : (Nat → Nat) → Prop) (σ : tv_M) (lv : Nat) : Prop :=
  (∀ i, i < lv → tv_Lv ok sz V T σ i) ∧ (∀ i j, i ≤ j → j < lv → σ 12 i ≤ σ 12 j) ∧ ∀ a, T a → ∃ i, i < lv ∧ tv_Rem V σ i a
def tv_C (ok : Nat → Prop) (sz : Nat → Nat) (V : (Nat → Nat) → Nat → Nat) (T : (Nat → Nat) → Prop) (σ : tv_M) (lv : Nat) : Prop :=
  (∀ i, i < lv → tv_Lv ok sz V T σ i) ∧ (∀ i j, i ≤ j → j < lv → σ 12 i ≤ σ 12 j) ∧ (∀ i, i < lv → σ 12 i ≤ σ 9 0) ∧ tv_DI ok sz σ lv ∧ (∀ a, tv_Sat V a σ → T a) ∧ ∀ a, T a → tv_Sat V a σ ∨ ∃ i, i < lv ∧ tv_Rem V σ i a
theorem tv_C_go {σ τ : tv_M} {z : Int32} (hC : tv_C ok sz V T σ lv) (hP : tv_goP ok sz V lv σ z τ) :
    (z = nI 0 ∧ tv_B ok sz V T τ lv) ∨ (z = nI 1 ∧ ∃ a, T a) ∨ (z = nI 2 ∧ tv_C ok sz V T τ lv ∧ τ 10 0 < τ 9 0 ∧ 0 < τ 1 (τ 7 (τ 10 0)) ∧ τ 1 (τ 7 (τ 10 0)) < 4) := by
  obtain ⟨c1, c2, c3, c4, c5, c6⟩ := hC
  have same : ∀ i, i < lv → tv_Fr σ τ → tv_same σ τ i := by
    intro i hi hF
    refine ⟨by rw [hF.1 12 (by omega)], by rw [hF.1 13 (by omega)], fun l _ => by rw [hF.1 14 (by omega)], fun j hj => hF.2 j ?_, hF.1 1 (by omega)⟩
    have := c3 i hi
    omega
  rcases hP with ⟨rfl, hF, hno⟩ | ⟨rfl, hJ, hend⟩ | ⟨rfl, hJ, h1, h2, h3⟩
  · left
    refine ⟨rfl, ?_, ?_, ?_⟩
    · intro i hi
      exact tv_Lv_ext (same i hi hF) (by rw [hF.1 15 (by omega)]; exact (c1 i hi).2.2.2.2.1) (c1 i hi)
    · intro i j hij hj
      rw [hF.1 12 (by omega)]
      exact c2 i j hij hj
    · intro a ha
      rcases c6 a ha with q | ⟨i, hi, hR⟩
      · exact absurd q (hno a)
      · exact ⟨i, hi, tv_Rem_ext (same i hi hF) (by rw [hF.1 15 (by omega)]) (c1 i hi).2.1 hR⟩
  · right; left
    refine ⟨rfl, ?_⟩
    obtain ⟨hF, hle, hD, hS⟩ := hJ
    have hex : ∀ l, ∃ x, l < 4 → x < 3 ∧ (τ 11 l).testBit x = true := by
      intro l
      by_cases hl : l < 4
      · have q := hD.2.2.1 l hl
        obtain ⟨x, h1, h2⟩ := tv_set_ne _ q.2 (by omega)
        exact ⟨x, fun _ => ⟨h1, h2⟩⟩
      · exact ⟨0, fun q => absurd q hl⟩
    refine ⟨fun l => Classical.choose (hex l), c5 _ ((hS _).mpr ⟨fun l hl => Classical.choose_spec (hex l) hl, fun i h1 h2 => by omega⟩)⟩
  · right; right
    obtain ⟨hF, hle, hD, hS⟩ := hJ
    refine ⟨rfl, ⟨?_, ?_, ?_, hD, fun a ha => c5 a ((hS a).mpr ha), ?_⟩, h1, h2, h3⟩
    · intro i hi
      exact tv_Lv_ext (same i hi hF) (by rw [hF.1 15 (by omega)]; exact (c1 i hi).2.2.2.2.1) (c1 i hi)
    · intro i j hij hj
      rw [hF.1 12 (by omega)]
      exact c2 i j hij hj
    · intro i hi
      rw [hF.1 12 (by omega)]
      have := c3 i hi
      omega
    · intro a ha
      rcases c6 a ha with q | ⟨i, hi, hR⟩
      · exact Or.inl ((hS a).mp q)
      · exact Or.inr ⟨i, hi, tv_Rem_ext (same i hi hF) (by rw [hF.1 15 (by omega)]) (c1 i hi).2.1 hR⟩
theorem tv_br_facts (σ : tv_M) (lv : Nat) : (∀ q, q < 12 ∨ 15 < q → tv_br σ lv q = σ q) ∧ tv_br σ lv 12 lv = σ 9 0 ∧ tv_br σ lv 13 lv = σ 10 0 ∧ tv_br σ lv 15 lv = 0 ∧ (∀ l, l < 4 → tv_br σ lv 14 (lv * 4 + l) = σ 11 l) ∧ ∀ i, i < lv → tv_br σ lv 12 i = σ 12 i ∧ tv_br σ lv 13 i = σ 13 i ∧ tv_br σ lv 15 i = σ 15 i ∧ ∀ l, l < 4 → tv_br σ lv 14 (i * 4 + l) = σ 14 (i * 4 + l) := by
  refine ⟨?_, by simp [tv_br, tv_st], by simp [tv_br, tv_st], by simp [tv_br, tv_st], ?_, ?_⟩
  · intro q hq
    unfold tv_br
    rw [tv_st_k (by omega), tv_st_k (by omega), tv_st_k (by omega), tv_st_k (by omega), tv_st_k (by omega), tv_st_k (by omega), tv_st_k (by omega)]
  · intro l hl
    rcases (show l = 0 ∨ l = 1 ∨ l = 2 ∨ l = 3 by omega) with rfl | rfl | rfl | rfl <;> simp [tv_br, tv_st]
  · intro i hi
    have hne : i ≠ lv := by omega
    refine ⟨by simp [tv_br, tv_st, hne], by simp [tv_br, tv_st, hne], by simp [tv_br, tv_st, hne], ?_⟩
    intro l hl
    have n0 : i * 4 + l ≠ lv * 4 + 0 := by omega
    have n1 : i * 4 + l ≠ lv * 4 + 1 := by omega
    have n2 : i * 4 + l ≠ lv * 4 + 2 := by omega
    have n3 : i * 4 + l ≠ lv * 4 + 3 := by omega
    unfold tv_br
    rw [tv_st_j n3, tv_st_j n2, tv_st_j n1, tv_st_j n0, tv_st_k (by decide), tv_st_k (by decide), tv_st_k (by decide)]
/-- room is left for one more branch -/
theorem tv_C_lv {σ : tv_M} (hF : tv_F σ ok sz V) (hC : tv_C ok sz V T σ lv) (h1 : σ 10 0 < σ 9 0) (h2 : 0 < σ 1 (σ 7 (σ 10 0))) (h3 : σ 1 (σ 7 (σ 10 0)) < 4) : lv ≤ 7 := by
  obtain ⟨d1, d2, d3, d4, d5⟩ := hC.2.2.2.1
  obtain ⟨q, hq⟩ : ∃ q, σ 9 0 - σ 10 0 = q + 1 := ⟨σ 9 0 - σ 10 0 - 1, by omega⟩
  have hok := (d2 (σ 10 0) h1).1
  obtain ⟨b1, b2, b3, -⟩ := (hF.2 _ hok).2.2.2.2.2.1 h2 h3
  have s1 := (hF.2 _ b1).2.2.1
  have s2 := (hF.2 _ b2).2.2.1
  have hge := tv_S_ge (sz := sz) (d := σ 7) (i := σ 10 0 + 1) q (fun k hk => (hF.2 _ (d2 (σ 10 0 + 1 + k) (by omega)).1).2.2.1)
  rw [hq, tv_S_front] at d5
  omega
theorem tv_C_br {σ : tv_M} (hC : tv_C ok sz V T σ lv) (h1 : σ 10 0 < σ 9 0) (h2 : 0 < σ 1 (σ 7 (σ 10 0))) (h3 : σ 1 (σ 7 (σ 10 0)) < 4) : tv_B ok sz V T (tv_br σ lv) (lv + 1) := by
  obtain ⟨c1, c2, c3, c4, c5, c6⟩ := hC
  obtain ⟨b1, b2, b3, b4, b5, b6⟩ := tv_br_facts σ lv
  have same : ∀ i, i < lv → tv_same σ (tv_br σ lv) i := by
    intro i hi
    obtain ⟨q1, q2, q3, q4⟩ := b6 i hi
    exact ⟨q1, q2, q4, fun j _ => by rw [b1 7 (by omega), b1 8 (by omega)]; exact ⟨rfl, rfl⟩, b1 1 (by omega)⟩
  have e9 : tv_rs (tv_br σ lv) lv 9 0 = σ 9 0 := by rw [tv_rs_9, b2]
  have e10 : tv_rs (tv_br σ lv) lv 10 0 = σ 10 0 := by rw [tv_rs_10, b3]
  have e11 : ∀ l, l < 4 → tv_rs (tv_br σ lv) lv 11 l = σ 11 l := fun l hl => by rw [tv_rs_11 _ _ l hl, b5 l hl]
  have e7 : ∀ i, i < σ 9 0 → tv_rs (tv_br σ lv) lv 7 i = σ 7 i ∧ tv_rs (tv_br σ lv) lv 8 i = σ 8 i := fun i _ => by
    rw [tv_rs_k (by decide), tv_rs_k (by decide), b1 7 (by omega), b1 8 (by omega)]
    exact ⟨rfl, rfl⟩
  refine ⟨?_, ?_, ?_⟩
  · intro i hi
    rcases Nat.lt_or_ge i lv with q | q
    · exact tv_Lv_ext (same i q) (by rw [(b6 i q).2.2.1]; exact (c1 i q).2.2.2.2.1) (c1 i q)
    · have e : i = lv := by omega
      subst e
      refine ⟨tv_DI_ext e9 e10 e11 e7 c4, ?_, ?_, ?_, ?_, fun a ha => c5 a ((tv_Sat_ext e9 e10 e11 e7).mp ha)⟩
      · rw [b2, b3]; exact h1
      · rw [b3, b1 7 (by omega), b1 1 (by omega)]; exact h2
      · rw [b3, b1 7 (by omega), b1 1 (by omega)]; exact h3
      · rw [b4]; omega
  · intro i j hij hj
    rcases Nat.lt_or_ge j lv with q | q
    · rw [(b6 j q).1, (b6 i (by omega)).1]
      exact c2 i j hij q
    · have e : j = lv := by omega
      rw [e, b2]
      rcases Nat.lt_or_ge i lv with q2 | q2
      · rw [(b6 i q2).1]; exact c3 i q2
      · rw [show i = lv by omega, b2]; exact Nat.le_refl _
  · intro a ha
    rcases c6 a ha with q | ⟨i, hi, hR⟩
    · exact ⟨lv, by omega, (tv_Sat_ext e9 e10 e11 e7).mpr q, by rw [b4]; exact Nat.zero_le _⟩
    · exact ⟨i, by omega, tv_Rem_ext (same i hi) (b6 i hi).2.2.1 (c1 i hi).2.1 hR⟩
/-- what a branch's demand asks of the two parts -/
theorem tv_part {σ : tv_M} {i : Nat} {a : Nat → Nat} (hF : tv_F σ ok sz V) (hL : tv_Lv ok sz V T σ i) (ha : ∀ l, l < 4 → a l < 3) :
    V a (σ 7 (σ 13 i) + 1) < 3 ∧ V a (σ 3 (σ 7 (σ 13 i))) < 3 ∧ ((σ 8 (σ 13 i)).testBit (V a (σ 7 (σ 13 i))) = (tv_pn (σ 0 0) (σ 1 (σ 7 (σ 13 i))) (V a (σ 7 (σ 13 i) + 1)) (σ 8 (σ 13 i))).testBit (V a (σ 3 (σ 7 (σ 13 i))))) := by
  obtain ⟨l1, l2, l3, l4, l5, l6⟩ := hL
  have hd := l1.2.1 (σ 13 i) (by rw [tv_rs_9]; exact l2)
  rw [tv_rs_k (by decide), tv_rs_k (by decide)] at hd
  obtain ⟨b1, b2, b3, b4⟩ := (hF.2 _ hd.1).2.2.2.2.2.1 l3 l4
  have v1 := (hF.2 _ b1).2.2.2.1 a ha
  have v2 := (hF.2 _ b2).2.2.2.1 a ha
  refine ⟨v1, v2, ?_⟩
  rw [(tv_pn_bit (σ 0 0) hF.1 _ l4 _ v1 _ hd.2.2).2 _ v2, b4 a]
theorem tv_B_none {σ : tv_M} (hF : tv_F σ ok sz V) (hB : tv_B ok sz V T σ (lv + 1)) (hno : ∀ y, σ 15 lv ≤ y → y < 3 → tv_pn (σ 0 0) (σ 1 (σ 7 (σ 13 lv))) y (σ 8 (σ 13 lv)) = 0) : tv_B ok sz V T (tv_rs σ lv) lv := by
  obtain ⟨c1, c2, c3⟩ := hB
  have same : ∀ i, tv_same σ (tv_rs σ lv) i := by
    intro i
    refine ⟨by rw [tv_rs_k (by decide)], by rw [tv_rs_k (by decide)], fun l _ => by rw [tv_rs_k (by decide)], fun j _ => by rw [tv_rs_k (by decide), tv_rs_k (by decide)]; exact ⟨rfl, rfl⟩, tv_rs_k (by decide)⟩
  have e15 : ∀ i, tv_rs σ lv 15 i = σ 15 i := fun i => by rw [tv_rs_k (by decide)]
  refine ⟨?_, ?_, ?_⟩
  · intro i hi
    exact tv_Lv_ext (same i) (by rw [e15]; exact (c1 i (by omega)).2.2.2.2.1) (c1 i (by omega))
  · intro i j hij hj
    rw [tv_rs_k (by decide)]
    exact c2 i j hij (by omega)
  · intro a ha
    obtain ⟨i, hi, hR⟩ := c3 a ha
    rcases Nat.lt_or_ge i lv with q | q
    · exact ⟨i, q, tv_Rem_ext (same i) (e15 i) (c1 i (by omega)).2.1 hR⟩
    · exfalso
      have e : i = lv := by omega
      subst e
      have ha3 : ∀ l, l < 4 → a l < 3 := fun l hl => (hR.1.1 l hl).1
      obtain ⟨p1, p2, p3⟩ := tv_part hF (c1 i (by omega)) ha3
      have q2 := hR.1.2 (σ 13 i) (by rw [tv_rs_10]; exact Nat.le_refl _) (by rw [tv_rs_9]; exact (c1 i (by omega)).2.1)
      rw [tv_rs_k (by decide), tv_rs_k (by decide), p3, hno _ hR.2 p1] at q2
      simp at q2
theorem tv_trn_facts {σ : tv_M} {x : Nat} (h12 : σ 12 lv ≤ 18) :
    (∀ q, q < 7 ∨ q = 12 ∨ q = 13 ∨ q = 14 ∨ 15 < q → tv_trn σ lv x q = σ q) ∧ tv_trn σ lv x 9 0 = σ 12 lv + 2 ∧ tv_trn σ lv x 10 0 = σ 13 lv + 1 ∧ (∀ l, l < 4 → tv_trn σ lv x 11 l = σ 14 (lv * 4 + l)) ∧
    (∀ i, i < σ 12 lv → tv_trn σ lv x 7 i = σ 7 i ∧ tv_trn σ lv x 8 i = σ 8 i) ∧ tv_trn σ lv x 7 (σ 12 lv) = σ 7 (σ 13 lv) + 1 ∧ tv_trn σ lv x 8 (σ 12 lv) = 1 * 2 ^ x ∧
    tv_trn σ lv x 7 (σ 12 lv + 1) = σ 3 (σ 7 (σ 13 lv)) ∧ tv_trn σ lv x 8 (σ 12 lv + 1) = tv_pn (σ 0 0) (σ 1 (σ 7 (σ 13 lv))) x (σ 8 (σ 13 lv)) ∧ tv_trn σ lv x 15 lv = x + 1 ∧ ∀ i, i ≠ lv → tv_trn σ lv x 15 i = σ 15 i := by
  unfold tv_trn
  generalize hq : tv_pn (σ 0 0) (σ 1 (σ 7 (σ 13 lv))) x (σ 8 (σ 13 lv)) = pn
  obtain ⟨ρ, hρ⟩ : ∃ ρ, ρ = tv_st (tv_rs σ lv) 15 lv (x + 1) := ⟨_, rfl⟩
  rw [← hρ]
  have r9 : ρ 9 0 = σ 12 lv := by rw [hρ, tv_st_k (by decide), tv_rs_9]
  have r7 : ρ 7 = σ 7 := by rw [hρ, tv_st_k (by decide), tv_rs_k (by decide)]
  have r8 : ρ 8 = σ 8 := by rw [hρ, tv_st_k (by decide), tv_rs_k (by decide)]
  obtain ⟨a1, a2, a3, a4⟩ := tv_dem_ok (σ := ρ) (c := σ 7 (σ 13 lv) + 1) (v := 1 * 2 ^ x) (by omega)
  obtain ⟨b1, b2, b3, b4⟩ := tv_dem_ok (σ := tv_dem ρ (σ 7 (σ 13 lv) + 1) (1 * 2 ^ x)) (c := σ 3 (σ 7 (σ 13 lv))) (v := pn) (by omega)
  rw [a1, r9] at b1 b2 b3 b4
  rw [r9] at a2 a3 a4
  refine ⟨?_, ?_, tv_st_eq _ _ _ _, ?_, ?_, ?_, ?_, ?_, ?_, ?_, ?_⟩
  · intro q hq
    rw [tv_st_k (by omega), tv_dem_k (by omega), tv_dem_k (by omega), hρ, tv_st_k (by omega), tv_rs_k (by omega)]
  · rw [tv_st_k (by decide), b1]
  · intro l hl
    rw [tv_st_k (by decide), tv_dem_k (by decide), tv_dem_k (by decide), hρ, tv_st_k (by decide), tv_rs_11 _ _ l hl]
  · intro i hi
    rw [tv_st_k (by decide), tv_st_k (by decide), (b4 i (by omega)).1, (b4 i (by omega)).2, (a4 i (by omega)).1, (a4 i (by omega)).2, r7, r8]
    exact ⟨rfl, rfl⟩
  · rw [tv_st_k (by decide), (b4 _ (by omega)).1, a2]
  · rw [tv_st_k (by decide), (b4 _ (by omega)).2, a3]
  · rw [tv_st_k (by decide), b2]
  · rw [tv_st_k (by decide), b3]
  · rw [tv_st_k (by decide), tv_dem_k (by decide), tv_dem_k (by decide), hρ, tv_st_eq]
  · intro i hi
    rw [tv_st_k (by decide), tv_dem_k (by decide), tv_dem_k (by decide), hρ, tv_st_j hi, tv_rs_k (by decide)]
theorem tv_Lv_18 {σ : tv_M} {i : Nat} (hF : tv_F σ ok sz V) (hL : tv_Lv ok sz V T σ i) : σ 12 i ≤ 18 := by
  have h := tv_DI_18 (σ := tv_rs σ i) (tv_F_ext hF (tv_rs_k (by decide)) (tv_rs_k (by decide)) (tv_rs_k (by decide))) hL.1
  rw [tv_rs_9] at h
  exact h
theorem tv_B_turn {σ : tv_M} {x : Nat} (hF : tv_F σ ok sz V) (hB : tv_B ok sz V T σ (lv + 1)) (h15 : σ 15 lv ≤ x) (hx : x < 3) (hp : tv_pn (σ 0 0) (σ 1 (σ 7 (σ 13 lv))) x (σ 8 (σ 13 lv)) ≠ 0) (hno : ∀ y, σ 15 lv ≤ y → y < x → tv_pn (σ 0 0) (σ 1 (σ 7 (σ 13 lv))) y (σ 8 (σ 13 lv)) = 0) : tv_C ok sz V T (tv_trn σ lv x) (lv + 1) := by
  obtain ⟨c1, c2, c3⟩ := hB
  have hLv := c1 lv (by omega)
  have h18 := tv_Lv_18 hF hLv
  obtain ⟨f1, f2, f3, f4, f5, f6, f7, f8, f9, f10, f11⟩ := tv_trn_facts (σ := σ) (lv := lv) (x := x) h18
  generalize hτ : tv_trn σ lv x = τ at *
  have same : ∀ i, i < lv + 1 → tv_same σ τ i := by
    intro i hi
    refine ⟨by rw [f1 12 (by omega)], by rw [f1 13 (by omega)], fun l _ => by rw [f1 14 (by omega)], fun j hj => f5 j ?_, f1 1 (by omega)⟩
    have := c2 i lv (by omega) (by omega)
    omega
  obtain ⟨l1, l2, l3, l4, l5, l6⟩ := hLv
  obtain ⟨d1, d2, d3, d4, d5⟩ := id l1
  rw [tv_rs_9, tv_rs_10, tv_rs_k (by decide)] at d4 d5
  have d2 : ∀ i, i < σ 12 lv → ok (σ 7 i) ∧ 0 < σ 8 i ∧ σ 8 i < 8 := by
    intro i hi
    have q := d2 i (by rw [tv_rs_9]; exact hi)
    rw [tv_rs_k (by decide), tv_rs_k (by decide)] at q
    exact q
  have hd := d2 (σ 13 lv) l2
  obtain ⟨b1, b2, b3, b4⟩ := (hF.2 _ hd.1).2.2.2.2.2.1 l3 l4
  have pn8 := (tv_pn_bit (σ 0 0) hF.1 _ l4 x hx _ hd.2.2).1
  have one8 : 0 < 1 * 2 ^ x ∧ 1 * 2 ^ x < 8 := by
    rcases (show x = 0 ∨ x = 1 ∨ x = 2 by omega) with q | q | q <;> (rw [q]; decide)
  have hadv := tv_S_adv (sz := sz) (d := σ 7) (d' := τ 7) l2 (fun i hi => (f5 i hi).1) (sz (σ 7 (σ 13 lv) + 1) + sz (σ 3 (σ 7 (σ 13 lv)))) 2 (by simp [tv_S, f6, f8])
  -- satisfied behind the turn: satisfied at the branch, with x for the first part
  have hsat : ∀ a, tv_Sat V a τ ↔ (tv_Sat V a (tv_rs σ lv) ∧ V a (σ 7 (σ 13 lv) + 1) = x) := by
    intro a
    constructor
    · intro h
      have ha3 : ∀ l, l < 4 → a l < 3 := fun l hl => (h.1 l hl).1
      obtain ⟨p1, p2, p3⟩ := tv_part (T := T) hF ⟨l1, l2, l3, l4, l5, l6⟩ ha3
      have q1 := h.2 (σ 12 lv) (by omega) (by omega)
      rw [f6, f7] at q1
      have q1 := (tv_one_bit x hx _ p1).mp q1
      have q2 := h.2 (σ 12 lv + 1) (by omega) (by omega)
      rw [f8, f9] at q2
      refine ⟨⟨?_, ?_⟩, q1⟩
      · intro l hl
        rw [tv_rs_11 _ _ l hl, ← f4 l hl]
        exact h.1 l hl
      · rw [tv_rs_9, tv_rs_10, tv_rs_k (by decide), tv_rs_k (by decide)]
        intro i h1 h2
        rcases Nat.eq_or_lt_of_le h1 with e | e
        · rw [← e, p3, q1]
          exact q2
        · have q3 := h.2 i (by omega) (by omega)
          rw [(f5 i h2).1, (f5 i h2).2] at q3
          exact q3
    · rintro ⟨h, hxx⟩
      have ha3 : ∀ l, l < 4 → a l < 3 := fun l hl => (h.1 l hl).1
      obtain ⟨p1, p2, p3⟩ := tv_part (T := T) hF ⟨l1, l2, l3, l4, l5, l6⟩ ha3
      have hall := h.2
      rw [tv_rs_9, tv_rs_10, tv_rs_k (by decide), tv_rs_k (by decide)] at hall
      refine ⟨?_, ?_⟩
      · intro l hl
        rw [f4 l hl, ← tv_rs_11 σ lv l hl]
        exact h.1 l hl
      · rw [f2, f3]
        intro i h1 h2
        rcases Nat.lt_or_ge i (σ 12 lv) with q | q
        · rw [(f5 i q).1, (f5 i q).2]
          exact hall i (by omega) q
        · rcases (show i = σ 12 lv ∨ i = σ 12 lv + 1 by omega) with e | e
          · rw [e, f6, f7]
            exact (tv_one_bit x hx _ p1).mpr hxx
          · rw [e, f8, f9]
            have q2 := hall (σ 13 lv) (Nat.le_refl _) l2
            rw [p3, hxx] at q2
            exact q2
  refine ⟨?_, ?_, ?_, ⟨?_, ?_, ?_, ?_, ?_⟩, ?_, ?_⟩
  · intro i hi
    refine tv_Lv_ext (same i hi) ?_ (c1 i hi)
    by_cases e : i = lv
    · rw [e, f10]; omega
    · rw [f11 i e]; exact (c1 i hi).2.2.2.2.1
  · intro i j hij hj
    rw [f1 12 (by omega)]
    exact c2 i j hij hj
  · intro i hi
    rw [f1 12 (by omega), f2]
    have := c2 i lv (by omega) (by omega)
    omega
  · omega
  · intro i hi
    rcases Nat.lt_or_ge i (σ 12 lv) with q | q
    · rw [(f5 i q).1, (f5 i q).2]
      exact d2 i q
    · rcases (show i = σ 12 lv ∨ i = σ 12 lv + 1 by omega) with e | e
      · rw [e, f6, f7]
        exact ⟨b1, one8⟩
      · rw [e, f8, f9]
        exact ⟨b2, Nat.pos_of_ne_zero hp, pn8⟩
  · intro l hl
    rw [f4 l hl, ← tv_rs_11 σ lv l hl]
    exact d3 l hl
  · rw [f2, f3]; omega
  · rw [f2, f3]; omega
  · intro a ha
    exact l6 a ((hsat a).mp ha).1
  · intro a ha
    obtain ⟨i, hi, hR⟩ := c3 a ha
    by_cases e : i = lv
    · subst e
      have ha3 : ∀ l, l < 4 → a l < 3 := fun l hl => (hR.1.1 l hl).1
      obtain ⟨p1, p2, p3⟩ := tv_part (T := T) hF ⟨l1, l2, l3, l4, l5, l6⟩ ha3
      have q2 := hR.1.2 (σ 13 i) (by rw [tv_rs_10]; exact Nat.le_refl _) (by rw [tv_rs_9]; exact l2)
      rw [tv_rs_k (by decide), tv_rs_k (by decide), p3] at q2
      rcases Nat.lt_trichotomy (V a (σ 7 (σ 13 i) + 1)) x with q | q | q
      · rw [hno _ hR.2 q] at q2
        simp at q2
      · exact Or.inl ((hsat a).mpr ⟨hR.1, q⟩)
      · right
        refine ⟨i, hi, (tv_same_Sat (same i hi) a).mpr hR.1, ?_⟩
        rw [f10, (same i hi).2.1, (f5 _ l2).1]
        exact q
    · exact Or.inr ⟨i, hi, tv_Rem_ext (same i hi) (f11 i e) (c1 i hi).2.1 hR⟩
/-! how many turns are left -/
def tv_w (i : Nat) : Nat := (3 ^ (8 - i) - 1) / 2
theorem tv_w_step : ∀ i, i < 8 → tv_w i = 3 * tv_w (i + 1) + 1 := by decide +kernel
def tv_Phi (σ : tv_M) : Nat → Nat
  | 0 => 0
  | lv + 1 => tv_Phi σ lv + (3 - σ 15 lv) * tv_w lv
theorem tv_Phi_ext {σ τ : tv_M} : ∀ lv, (∀ i, i < lv → τ 15 i = σ 15 i) → tv_Phi τ lv = tv_Phi σ lv := by
  intro lv
  induction lv with
  | zero => intro _; rfl
  | succ lv ih =>
    intro h
    simp only [tv_Phi, h lv (by omega), ih (fun i hi => h i (by omega))]
theorem tv_Phi_go {σ τ : tv_M} {z : Int32} (hP : tv_goP ok sz V lv σ z τ) : tv_Phi τ lv = tv_Phi σ lv := by
  have hF : tv_Fr σ τ := by
    rcases hP with ⟨-, hF, -⟩ | ⟨-, hJ, -⟩ | ⟨-, hJ, -⟩
    · exact hF
    · exact hJ.1
    · exact hJ.1
  exact tv_Phi_ext lv (fun i _ => by rw [hF.1 15 (by omega)])
theorem tv_Phi_br (σ : tv_M) (lv : Nat) : tv_Phi (tv_br σ lv) (lv + 1) = tv_Phi σ lv + 3 * tv_w lv := by
  obtain ⟨b1, b2, b3, b4, b5, b6⟩ := tv_br_facts σ lv
  simp only [tv_Phi, b4]
  rw [tv_Phi_ext lv (fun i hi => (b6 i hi).2.2.1)]
theorem tv_Phi_none (σ : tv_M) (lv : Nat) : tv_Phi (tv_rs σ lv) lv ≤ tv_Phi σ (lv + 1) := by
  rw [tv_Phi_ext (σ := σ) lv (fun i _ => by rw [tv_rs_k (by decide)])]
  simp only [tv_Phi]
  omega
theorem tv_Phi_turn {σ : tv_M} {x : Nat} (h12 : σ 12 lv ≤ 18) (h15 : σ 15 lv ≤ x) (hx : x < 3) : tv_Phi (tv_trn σ lv x) (lv + 1) + tv_w lv ≤ tv_Phi σ (lv + 1) := by
  obtain ⟨f1, f2, f3, f4, f5, f6, f7, f8, f9, f10, f11⟩ := tv_trn_facts (σ := σ) (lv := lv) (x := x) h12
  simp only [tv_Phi, f10]
  rw [tv_Phi_ext lv (fun i hi => f11 i (by omega))]
  have h1 : (3 - (x + 1)) * tv_w lv + tv_w lv = (3 - (x + 1) + 1) * tv_w lv := by rw [Nat.add_mul, Nat.one_mul]
  have h2 : (3 - (x + 1) + 1) * tv_w lv ≤ (3 - σ 15 lv) * tv_w lv := Nat.mul_le_mul_right _ (by omega)
  omega
end
end
section
set_option maxRecDepth 100000
/-! WALK: meets, the search's own loop -/
def tv_i0 (σ : tv_M) : tv_M := tv_st (tv_st σ 9 0 0) 10 0 0
def tv_i1 (σ : tv_M) : tv_M := if σ 16 0 = 7 then tv_i0 σ else tv_dem (tv_i0 σ) 0 (σ 16 0)
def tv_i2 (σ : tv_M) : tv_M := if σ 17 0 = 7 then tv_i1 σ else tv_dem (tv_i1 σ) 9 (σ 17 0)
def tv_i3 (σ : tv_M) : tv_M := tv_st (tv_st (tv_st (tv_st (tv_i2 σ) 11 0 (σ 18 0)) 11 1 (σ 18 1)) 11 2 (σ 18 2)) 11 3 (σ 18 3)
/-- a question is at hand: sets of values for the whole formulas that are asked, and for the letters -/
def tv_Q (σ : tv_M) (ok : Nat → Prop) (sz : Nat → Nat) : Prop := (0 < σ 16 0 ∧ σ 16 0 < 8 ∧ (σ 16 0 ≠ 7 → ok 0 ∧ sz 0 ≤ 9)) ∧ (0 < σ 17 0 ∧ σ 17 0 < 8 ∧ (σ 17 0 ≠ 7 → ok 9 ∧ sz 9 ≤ 9)) ∧ ∀ l, l < 4 → 0 < σ 18 l ∧ σ 18 l < 8
/-- the assignments that meet it -/
def tv_T (σ : tv_M) (V : (Nat → Nat) → Nat → Nat) (a : Nat → Nat) : Prop := (∀ l, l < 4 → a l < 3 ∧ (σ 18 l).testBit (a l) = true) ∧ (σ 16 0 ≠ 7 → (σ 16 0).testBit (V a 0) = true) ∧ (σ 17 0 ≠ 7 → (σ 17 0).testBit (V a 9) = true)
theorem tv_i2_k {σ : tv_M} {q : Nat} (h : q < 7 ∨ 10 < q) : tv_i2 σ q = σ q := by
  have h0 : tv_i0 σ q = σ q := by
    unfold tv_i0
    rw [tv_st_k (by omega), tv_st_k (by omega)]
  have h1 : tv_i1 σ q = σ q := by
    unfold tv_i1
    split
    · exact h0
    · rw [tv_dem_k (by omega), h0]
  unfold tv_i2
  split
  · exact h1
  · rw [tv_dem_k (by omega), h1]
theorem tv_i3_k {σ : tv_M} {q : Nat} (h : q < 7 ∨ 11 < q) : tv_i3 σ q = σ q := by
  unfold tv_i3
  rw [tv_st_k (by omega), tv_st_k (by omega), tv_st_k (by omega), tv_st_k (by omega), tv_i2_k (by omega)]
theorem tv_i3_11 (σ : tv_M) : ∀ l, l < 4 → tv_i3 σ 11 l = σ 18 l := by
  intro l hl
  rcases (show l = 0 ∨ l = 1 ∨ l = 2 ∨ l = 3 by omega) with rfl | rfl | rfl | rfl <;> simp [tv_i3, tv_st]
theorem tv_i3_lo {σ : tv_M} {q : Nat} (h : q ≠ 11) : tv_i3 σ q = tv_i2 σ q := by
  unfold tv_i3
  rw [tv_st_k h, tv_st_k h, tv_st_k h, tv_st_k h]
theorem tv_i3_C {σ : tv_M} {ok : Nat → Prop} {sz : Nat → Nat} {V : (Nat → Nat) → Nat → Nat} (hQ : tv_Q σ ok sz) : tv_C ok sz V (tv_T σ V) (tv_i3 σ) 0 := by
  obtain ⟨⟨q1, q2, q3⟩, ⟨q4, q5, q6⟩, q7⟩ := hQ
  have e10 : tv_i3 σ 10 0 = 0 := by
    rw [tv_i3_lo (by decide)]
    unfold tv_i2 tv_i1
    (repeat' split) <;> simp [tv_dem_k, tv_i0, tv_st]
  have e11 := tv_i3_11 σ
  -- the demands, by the sets that are asked
  have key : (tv_i3 σ 9 0 = 0 ∧ σ 16 0 = 7 ∧ σ 17 0 = 7) ∨ (tv_i3 σ 9 0 = 1 ∧ σ 16 0 ≠ 7 ∧ σ 17 0 = 7 ∧ tv_i3 σ 7 0 = 0 ∧ tv_i3 σ 8 0 = σ 16 0) ∨ (tv_i3 σ 9 0 = 1 ∧ σ 16 0 = 7 ∧ σ 17 0 ≠ 7 ∧ tv_i3 σ 7 0 = 9 ∧ tv_i3 σ 8 0 = σ 17 0) ∨ (tv_i3 σ 9 0 = 2 ∧ σ 16 0 ≠ 7 ∧ σ 17 0 ≠ 7 ∧ tv_i3 σ 7 0 = 0 ∧ tv_i3 σ 8 0 = σ 16 0 ∧ tv_i3 σ 7 1 = 9 ∧ tv_i3 σ 8 1 = σ 17 0) := by
    rw [tv_i3_lo (by decide), tv_i3_lo (by decide), tv_i3_lo (by decide)]
    have z9 : tv_i0 σ 9 0 = 0 := by simp [tv_i0, tv_st]
    by_cases h1 : σ 16 0 = 7 <;> by_cases h2 : σ 17 0 = 7
    · left
      simp only [tv_i2, tv_i1, h1, h2, if_true]
      exact ⟨z9, trivial, trivial⟩
    · right; right; left
      simp only [tv_i2, tv_i1, h1, h2, if_true, if_false]
      obtain ⟨a1, a2, a3, a4⟩ := tv_dem_ok (σ := tv_i0 σ) (c := 9) (v := σ 17 0) (by omega)
      rw [z9] at a1 a2 a3
      exact ⟨a1, trivial, h2, a2, a3⟩
    · right; left
      simp only [tv_i2, tv_i1, h1, h2, if_true, if_false]
      obtain ⟨a1, a2, a3, a4⟩ := tv_dem_ok (σ := tv_i0 σ) (c := 0) (v := σ 16 0) (by omega)
      rw [z9] at a1 a2 a3
      exact ⟨a1, h1, trivial, a2, a3⟩
    · right; right; right
      simp only [tv_i2, tv_i1, h1, h2, if_false]
      obtain ⟨a1, a2, a3, a4⟩ := tv_dem_ok (σ := tv_i0 σ) (c := 0) (v := σ 16 0) (by omega)
      rw [z9] at a1 a2 a3
      obtain ⟨b1, b2, b3, b4⟩ := tv_dem_ok (σ := tv_dem (tv_i0 σ) 0 (σ 16 0)) (c := 9) (v := σ 17 0) (by omega)
      rw [a1] at b1 b2 b3 b4
      refine ⟨b1, h1, h2, ?_, ?_, b2, b3⟩
      · rw [(b4 0 (by decide)).1, a2]
      · rw [(b4 0 (by decide)).2, a3]
  have hT : ∀ a, tv_Sat V a (tv_i3 σ) ↔ tv_T σ V a := by
    intro a
    unfold tv_Sat tv_T
    have hl : (∀ l, l < 4 → a l < 3 ∧ (tv_i3 σ 11 l).testBit (a l) = true) ↔ ∀ l, l < 4 → a l < 3 ∧ (σ 18 l).testBit (a l) = true := by
      constructor
      · intro h l hl
        rw [← e11 l hl]; exact h l hl
      · intro h l hl
        rw [e11 l hl]; exact h l hl
    rw [hl, e10]
    refine and_congr Iff.rfl ?_
    rcases key with ⟨k9, k1, k2⟩ | ⟨k9, k1, k2, k3, k4⟩ | ⟨k9, k1, k2, k3, k4⟩ | ⟨k9, k1, k2, k3, k4, k5, k6⟩
    · rw [k9]
      exact ⟨fun _ => ⟨fun q => absurd k1 q, fun q => absurd k2 q⟩, fun _ i _ h => absurd h (by omega)⟩
    · rw [k9]
      refine ⟨fun h => ⟨fun _ => ?_, fun q => absurd k2 q⟩, fun h i _ hi => ?_⟩
      · have := h 0 (by omega) (by omega)
        rw [k3, k4] at this
        exact this
      · have e : i = 0 := by omega
        rw [e, k3, k4]
        exact h.1 k1
    · rw [k9]
      refine ⟨fun h => ⟨fun q => absurd k1 q, fun _ => ?_⟩, fun h i _ hi => ?_⟩
      · have := h 0 (by omega) (by omega)
        rw [k3, k4] at this
        exact this
      · have e : i = 0 := by omega
        rw [e, k3, k4]
        exact h.2 k2
    · rw [k9]
      refine ⟨fun h => ⟨fun _ => ?_, fun _ => ?_⟩, fun h i _ hi => ?_⟩
      · have := h 0 (by omega) (by omega)
        rw [k3, k4] at this
        exact this
      · have := h 1 (by omega) (by omega)
        rw [k5, k6] at this
        exact this
      · rcases (show i = 0 ∨ i = 1 by omega) with e | e
        · rw [e, k3, k4]; exact h.1 k1
        · rw [e, k5, k6]; exact h.2 k2
  refine ⟨fun i hi => by omega, fun i j _ hj => by omega, fun i hi => by omega, ?_, fun a ha => (hT a).mp ha, fun a ha => Or.inl ((hT a).mpr ha)⟩
  unfold tv_DI
  rw [e10]
  refine ⟨by omega, ?_, ?_, ?_, ?_⟩
  · intro i hi
    rcases key with ⟨k9, k1, k2⟩ | ⟨k9, k1, k2, k3, k4⟩ | ⟨k9, k1, k2, k3, k4⟩ | ⟨k9, k1, k2, k3, k4, k5, k6⟩
    · omega
    · have e : i = 0 := by omega
      rw [e, k3, k4]; exact ⟨(q3 k1).1, q1, q2⟩
    · have e : i = 0 := by omega
      rw [e, k3, k4]; exact ⟨(q6 k2).1, q4, q5⟩
    · rcases (show i = 0 ∨ i = 1 by omega) with e | e
      · rw [e, k3, k4]; exact ⟨(q3 k1).1, q1, q2⟩
      · rw [e, k5, k6]; exact ⟨(q6 k2).1, q4, q5⟩
  · intro l hl
    rw [e11 l hl]; exact q7 l hl
  · rcases key with ⟨k9, k1, k2⟩ | ⟨k9, k1, k2, k3, k4⟩ | ⟨k9, k1, k2, k3, k4⟩ | ⟨k9, k1, k2, k3, k4, k5, k6⟩
    · rw [k9]; simp [tv_S]
    · rw [k9]; simp only [tv_S, Nat.sub_zero, Nat.zero_add, Nat.add_zero, k3]; have := (q3 k1).2; omega
    · rw [k9]; simp only [tv_S, Nat.sub_zero, Nat.zero_add, Nat.add_zero, k3]; have := (q6 k2).2; omega
    · rw [k9]; simp only [tv_S, Nat.sub_zero, Nat.zero_add, Nat.add_zero, k3, k5]; have := (q3 k1).2; have := (q6 k2).2; omega
  · rcases key with ⟨k9, k1, k2⟩ | ⟨k9, k1, k2, k3, k4⟩ | ⟨k9, k1, k2, k3, k4⟩ | ⟨k9, k1, k2, k3, k4, k5, k6⟩
    · rw [k9]; simp [tv_S]
    · rw [k9]; simp only [tv_S, Nat.sub_zero, Nat.zero_add, Nat.add_zero, k3]; have := (q3 k1).2; omega
    · rw [k9]; simp only [tv_S, Nat.sub_zero, Nat.zero_add, Nat.add_zero, k3]; have := (q6 k2).2; omega
    · rw [k9]; simp only [tv_S, Nat.sub_zero, Nat.zero_add, Nat.add_zero, k3, k5]; have := (q3 k1).2; have := (q6 k2).2; omega
section
variable {ok : Nat → Prop} {sz : Nat → Nat} {V : (Nat → Nat) → Nat → Nat} {T : (Nat → Nat) → Prop} {lv : Nat}
def tv_Hd (ok : Nat → Prop) (sz : Nat → Nat) (V : (Nat → Nat) → Nat → Nat) (T : (Nat → Nat) → Prop) (σ : tv_M) (lv r : Nat) : Prop :=
  (r = 0 ∧ tv_B ok sz V T σ lv) ∨ (r = 1 ∧ ∃ a, T a) ∨ (r = 2 ∧ tv_C ok sz V T σ lv ∧ σ 10 0 < σ 9 0 ∧ 0 < σ 1 (σ 7 (σ 10 0)) ∧ σ 1 (σ 7 (σ 10 0)) < 4)
theorem tv_go_Hd {σ τ : tv_M} {z : Int32} (hC : tv_C ok sz V T σ lv) (hP : tv_goP ok sz V lv σ z τ) : ∃ r, z = nI r ∧ r ≤ 2 ∧ tv_Hd ok sz V T τ lv r := by
  rcases tv_C_go hC hP with ⟨h1, h2⟩ | ⟨h1, h2⟩ | ⟨h1, h2⟩
  · exact ⟨0, h1, by decide, Or.inl ⟨rfl, h2⟩⟩
  · exact ⟨1, h1, by decide, Or.inr (Or.inl ⟨rfl, h2⟩)⟩
  · exact ⟨2, h1, by decide, Or.inr (Or.inr ⟨rfl, h2⟩)⟩
theorem tv_go_k {σ τ : tv_M} {z : Int32} (hP : tv_goP ok sz V lv σ z τ) : ∀ q, q < 7 ∨ 11 < q → τ q = σ q := by
  rcases hP with ⟨-, hF, -⟩ | ⟨-, hJ, -⟩ | ⟨-, hJ, -⟩
  · exact hF.1
  · exact hJ.1.1
  · exact hJ.1.1
def tv_Mr (lv r : Nat) : Nat := if r = 2 then 3 * tv_w lv else 0
theorem tv_Mr_le (lv r : Nat) : tv_Mr lv r ≤ 3 * tv_w lv := by
  unfold tv_Mr
  split <;> omega
theorem tv_nt_pre {σ : tv_M} (hF : tv_F σ ok sz V) (hL : tv_Lv ok sz V T σ lv) : σ 12 lv ≤ 18 ∧ σ 13 lv < 32 ∧ σ 7 (σ 13 lv) < 18 ∧ σ 1 (σ 7 (σ 13 lv)) < 4 ∧ σ 8 (σ 13 lv) < 8 ∧ σ 3 (σ 7 (σ 13 lv)) < 128 ∧ σ 15 lv ≤ 3 ∧ σ 14 (lv * 4 + 0) < 128 ∧ σ 14 (lv * 4 + 1) < 128 ∧ σ 14 (lv * 4 + 2) < 128 ∧ σ 14 (lv * 4 + 3) < 128 := by
  have h18 := tv_Lv_18 hF hL
  obtain ⟨l1, l2, l3, l4, l5, l6⟩ := hL
  have hd := l1.2.1 (σ 13 lv) (by rw [tv_rs_9]; exact l2)
  rw [tv_rs_k (by decide), tv_rs_k (by decide)] at hd
  obtain ⟨b1, b2, b3, b4⟩ := (hF.2 _ hd.1).2.2.2.2.2.1 l3 l4
  have d3 := l1.2.2.1
  have g0 := d3 0 (by decide)
  have g1 := d3 1 (by decide)
  have g2 := d3 2 (by decide)
  have g3 := d3 3 (by decide)
  rw [tv_rs_11 _ _ _ (by decide)] at g0 g1 g2 g3
  have c18 := (hF.2 _ hd.1).1
  have s18 := (hF.2 _ b2).1
  exact ⟨h18, by omega, c18, l4, hd.2.2, by omega, l5, by omega, by omega, by omega, by omega⟩
theorem tv_br_pre {σ : tv_M} (hF : tv_F σ ok sz V) (hC : tv_C ok sz V T σ lv) : σ 9 0 ≤ 18 ∧ σ 10 0 ≤ 18 ∧ σ 11 0 < 8 ∧ σ 11 1 < 8 ∧ σ 11 2 < 8 ∧ σ 11 3 < 8 := by
  have hD := hC.2.2.2.1
  have h18 := tv_DI_18 hF hD
  have h1 := hD.1
  exact ⟨h18, by omega, (hD.2.2.1 0 (by decide)).2, (hD.2.2.1 1 (by decide)).2, (hD.2.2.1 2 (by decide)).2, (hD.2.2.1 3 (by decide)).2⟩
end
set_option maxHeartbeats 4000000 in
theorem tv_cX_meets (l : Launch) (D : va_G) (h : Nat → Nat) (d : Nat → ClassId) (σ : tv_M) (ok : Nat → Prop) (sz : Nat → Nat) (V : (Nat → Nat) → Nat → Nat) (hF : tv_F σ ok sz V) (hQ : tv_Q σ ok sz) : tv_CI l yX1_meets cX1_meets 5 (some .boolean) ({ frames := 3, cells := 0, slots := 0, locals := 73 } : Room) D (tv_tX d) (tv_wX h d) [.ref (h 0)] σ (fun z τ => ((z = nI 1 ∧ ∃ a, tv_T σ V a) ∨ (z = nI 0 ∧ ∀ a, ¬ tv_T σ V a)) ∧ ∀ q, q < 7 ∨ 15 < q → τ q = σ q) := by
  refine tv_inZ (own := RX1) (by decide) rfl (by simp [Value.category]) (Nat.le_of_ble_eq_true rfl) ?_
  intro G hG hret
  obtain ⟨⟨q1, q2, q3⟩, ⟨q4, q5, q6⟩, q7⟩ := id hQ
  have o0 := (q7 0 (by decide)).2
  have o1 := (q7 1 (by decide)).2
  have o2 := (q7 2 (by decide)).2
  have o3 := (q7 3 (by decide)).2
  have outer : ∀ (k rd lv r : Nat) (ρ : tv_M), rd + k = 9841 → lv ≤ 8 → r ≤ 2 → tv_Hd ok sz V (tv_T σ V) ρ lv r → tv_Phi ρ lv + tv_Mr lv r + rd ≤ 9840 → (∀ q, q < 7 ∨ 15 < q → ρ q = σ q) → G 81 [.ref (h 0), .int (nI lv), .int (nI r), .int (nI rd)] [] ρ := by
    intro k
    induction k with
    | zero =>
      intro rd lv r ρ h1 h2 h3 h4 h5 h6
      exfalso; omega
    | succ k ih =>
      intro rd lv r ρ hk hlv hr2 hH hM hfr
      have inner : ∀ (lv : Nat) (ρ : tv_M), tv_B ok sz V (tv_T σ V) ρ lv → lv ≤ 8 → tv_Phi ρ lv + rd ≤ 9840 → (∀ q, q < 7 ∨ 15 < q → ρ q = σ q) → G 110 [.ref (h 0), .int (nI lv), .int (nI r), .int (nI rd), .int (nI 0)] [] ρ := by
        clear hH hM hfr hlv lv ρ
        intro lv
        induction lv with
        | zero =>
          intro ρ hB hlv hPhi hfr
          refine tv_iload_n hG dX1_meets_110 rfl rfl ?_
          refine tv_if_le (tgt := 139) hG dX1_meets_111 (by decide) (by omega) (fun _ => ?_) (fun q => absurd q (by decide))
          refine tv_iload hG dX1_meets_139 rfl ?_
          refine tv_if_ne (tgt := 146) hG dX1_meets_141 (by decide) (by omega) (fun q => absurd q (by decide)) (fun _ => ?_)
          refine tv_iconst (x := nI 0) hG dX1_meets_144 rfl ?_
          exact hret _ _ _ _ dX1_meets_145 (by decide) ⟨Or.inr ⟨rfl, fun a ha => by obtain ⟨i, hi, _⟩ := hB.2.2 a ha; omega⟩, hfr⟩
        | succ lv ihl =>
          intro ρ hB hlv hPhi hfr
          have hFρ : tv_F ρ ok sz V := tv_F_ext hF (hfr 0 (by omega)) (hfr 1 (by omega)) (hfr 3 (by omega))
          obtain ⟨p1, p2, p3, p4, p5, p6, p7, p8, p9, p10, p11⟩ := tv_nt_pre hFρ (hB.1 lv (by omega))
          refine tv_iload_n hG dX1_meets_110 rfl rfl ?_
          refine tv_if_le (tgt := 139) hG dX1_meets_111 (by decide) (by omega) (fun q => by exfalso; omega) (fun _ => ?_)
          refine tv_iload hG dX1_meets_114 rfl ?_
          refine tv_if_ne (tgt := 139) hG dX1_meets_116 (by decide) (by omega) (fun q => absurd q (by decide)) (fun _ => ?_)
          refine tv_aload_n hG dX1_meets_119 rfl rfl ?_
          refine tv_iload_n hG dX1_meets_120 rfl rfl ?_
          refine tv_iconst (x := nI 1) hG dX1_meets_121 rfl ?_
          refine tv_isub hG dX1_meets_122 (by omega) ?_
          rw [show lv + 1 - 1 = lv from rfl]
          refine tv_callI (As := [.int (nI lv)]) (st := []) hG (tv_cX_nextTurn l D h d ρ lv (by omega) hFρ.1 p1 p2 p3 p4 p5 p6 p7 p8 p9 p10 p11) q184 q186 qs12 q22 q187 (ci := 0) rfl rfl 1 (by decide +kernel) rfl rfl ⟨Nat.le_of_ble_eq_true rfl, Nat.le_of_ble_eq_true rfl⟩ rfl rfl (Nat.le_of_ble_eq_true rfl) dX1_meets_123 (fun z τ hp => ?_)
          rcases hp with ⟨rfl, rfl, hno⟩ | ⟨x, rfl, h15, hx, hp, hno, rfl⟩
          · refine tv_istore (vs1 := [.ref (h 0), .int (nI (lv + 1)), .int (nI r), .int (nI rd), .int (nI 0)]) hG dX1_meets_126 (by decide) (Nat.le_of_ble_eq_true rfl) rfl ?_
            refine tv_iload hG dX1_meets_128 rfl ?_
            refine tv_if_ne (tgt := 110) hG dX1_meets_130 (by decide) (by omega) (fun q => absurd q (by decide)) (fun _ => ?_)
            refine tv_iinc (y := nI lv) (vs1 := [.ref (h 0), .int (nI lv), .int (nI r), .int (nI rd), .int (nI 0)]) hG dX1_meets_133 rfl (by rw [show (Int32.ofInt (-1)) = -1 by decide]; exact pk_m1 _) (by decide) rfl ?_
            refine tv_goto (tgt := 110) hG dX1_meets_136 (by decide) ?_
            exact ihl (tv_rs ρ lv) (tv_B_none hFρ hB hno) (by omega) (by have := tv_Phi_none ρ lv; omega) (fun q hq => by rw [tv_rs_k (by omega)]; exact hfr q hq)
          · have hC := tv_B_turn hFρ hB h15 hx hp hno
            have hPt := tv_Phi_turn (lv := lv) (x := x) p1 h15 hx
            have hws := tv_w_step lv (by omega)
            obtain ⟨tf, -⟩ := tv_trn_facts (σ := ρ) (lv := lv) (x := x) p1
            refine tv_istore (vs1 := [.ref (h 0), .int (nI (lv + 1)), .int (nI r), .int (nI rd), .int (nI 1)]) hG dX1_meets_126 (by decide) (Nat.le_of_ble_eq_true rfl) rfl ?_
            refine tv_iload hG dX1_meets_128 rfl ?_
            refine tv_if_ne (tgt := 110) hG dX1_meets_130 (by decide) (by omega) (fun _ => ?_) (fun q => absurd q (by decide))
            refine tv_iload_n hG dX1_meets_110 rfl rfl ?_
            refine tv_if_le (tgt := 139) hG dX1_meets_111 (by decide) (by omega) (fun q => by exfalso; omega) (fun _ => ?_)
            refine tv_iload hG dX1_meets_114 rfl ?_
            refine tv_if_ne (tgt := 139) hG dX1_meets_116 (by decide) (by omega) (fun _ => ?_) (fun q => absurd q (by decide))
            refine tv_iload hG dX1_meets_139 rfl ?_
            refine tv_if_ne (tgt := 146) hG dX1_meets_141 (by decide) (by omega) (fun _ => ?_) (fun q => absurd q (by decide))
            refine tv_aload_n hG dX1_meets_146 rfl rfl ?_
            refine tv_callI (As := []) (st := []) hG (tv_cX_goOn l D h d (tv_trn ρ lv x) ok sz V (lv + 1) (tv_F_ext hFρ (tf 0 (by omega)) (tf 1 (by omega)) (tf 3 (by omega))) hC.2.2.2.1) q171 q173 qs9 q22 q174 (ci := 0) rfl rfl 0 (by decide +kernel) rfl rfl ⟨Nat.le_of_ble_eq_true rfl, Nat.le_of_ble_eq_true rfl⟩ rfl rfl (Nat.le_of_ble_eq_true rfl) dX1_meets_147 (fun z τ hg => ?_)
            have hPg := tv_Phi_go hg
            have hkg := tv_go_k hg
            obtain ⟨r2, rfl, hr3, hH2⟩ := tv_go_Hd hC hg
            have hMr := tv_Mr_le (lv + 1) r2
            refine tv_istore_n (vs1 := [.ref (h 0), .int (nI (lv + 1)), .int (nI r2), .int (nI rd), .int (nI 1)]) hG dX1_meets_150 rfl (by decide) (Nat.le_of_ble_eq_true rfl) rfl ?_
            refine tv_iinc (y := nI (rd + 1)) (vs1 := [.ref (h 0), .int (nI (lv + 1)), .int (nI r2), .int (nI (rd + 1)), .int (nI 1)]) hG dX1_meets_151 rfl (nI_1 _) (by decide) rfl ?_
            refine tv_goto (tgt := 81) hG dX1_meets_154 (by decide) ?_
            refine tv_drop (vs1 := [.ref (h 0), .int (nI (lv + 1)), .int (nI r2), .int (nI (rd + 1))]) hG ⟨_, rfl⟩ ?_
            exact ih (rd + 1) (lv + 1) r2 τ (by omega) (by omega) hr3 hH2 (by omega) (fun q hq => by rw [hkg q (by omega), tf q (by omega)]; exact hfr q hq)
      have hFρ : tv_F ρ ok sz V := tv_F_ext hF (hfr 0 (by omega)) (hfr 1 (by omega)) (hfr 3 (by omega))
      refine tv_iload_n hG dX1_meets_81 rfl rfl ?_
      refine tv_ldc (x := nI 32768) hG q179 dX1_meets_82 ?_
      refine tv_icmp_ge (tgt := 157) hG dX1_meets_84 (by decide) (by omega) (by omega) (fun q => by exfalso; omega) (fun _ => ?_)
      refine tv_iload_n hG dX1_meets_87 rfl rfl ?_
      refine tv_iconst (x := nI 1) hG dX1_meets_88 rfl ?_
      refine tv_icmp_ne (tgt := 94) hG dX1_meets_89 (by decide) (by omega) (by omega) (fun c1 => ?_) (fun c1 => ?_)
      · refine tv_iload_n hG dX1_meets_94 rfl rfl ?_
        refine tv_iconst (x := nI 2) hG dX1_meets_95 rfl ?_
        refine tv_icmp_ne (tgt := 107) hG dX1_meets_96 (by decide) (by omega) (by omega) (fun c2 => ?_) (fun c2 => ?_)
        · refine tv_iconst (x := nI 0) hG dX1_meets_107 rfl ?_
          refine tv_istore (vs1 := [.ref (h 0), .int (nI lv), .int (nI r), .int (nI rd), .int (nI 0)]) hG dX1_meets_108 (by decide) (Nat.le_of_ble_eq_true rfl) rfl ?_
          have hB : tv_B ok sz V (tv_T σ V) ρ lv := by
            rcases hH with ⟨_, q⟩ | ⟨q, _⟩ | ⟨q, _⟩
            · exact q
            · exfalso; omega
            · exfalso; omega
          exact inner lv ρ hB (by omega) (by omega) hfr
        · refine tv_aload_n hG dX1_meets_99 rfl rfl ?_
          refine tv_iload_n hG dX1_meets_100 rfl rfl ?_
          obtain ⟨hC, h1, h2, h3⟩ : tv_C ok sz V (tv_T σ V) ρ lv ∧ ρ 10 0 < ρ 9 0 ∧ 0 < ρ 1 (ρ 7 (ρ 10 0)) ∧ ρ 1 (ρ 7 (ρ 10 0)) < 4 := by
            rcases hH with ⟨q, _⟩ | ⟨q, _⟩ | ⟨_, q⟩
            · exfalso; omega
            · exfalso; omega
            · exact q
          have hl7 := tv_C_lv hFρ hC h1 h2 h3
          obtain ⟨b1, b2, b3, b4, b5, b6⟩ := tv_br_pre hFρ hC
          refine tv_callxV (As := [.int (nI lv)]) (st := []) hG (tv_cX_open l D h d ρ lv (by omega) (by omega) (by omega) (by omega) (by omega) (by omega) (by omega)) q180 q182 qs11 q22 q183 (ci := 0) rfl rfl 1 (by decide +kernel) rfl rfl ⟨Nat.le_of_ble_eq_true rfl, Nat.le_of_ble_eq_true rfl⟩ rfl rfl (Nat.le_of_ble_eq_true rfl) dX1_meets_101 ?_
          refine tv_iinc (y := nI (lv + 1)) (vs1 := [.ref (h 0), .int (nI (lv + 1)), .int (nI r), .int (nI rd)]) hG dX1_meets_104 rfl (nI_1 _) (by decide) rfl ?_
          refine tv_iconst (x := nI 0) hG dX1_meets_107 rfl ?_
          refine tv_istore (vs1 := [.ref (h 0), .int (nI (lv + 1)), .int (nI r), .int (nI rd), .int (nI 0)]) hG dX1_meets_108 (by decide) (Nat.le_of_ble_eq_true rfl) rfl ?_
          have hPb := tv_Phi_br ρ lv
          have hMr : tv_Mr lv r = 3 * tv_w lv := by unfold tv_Mr; rw [if_pos (by omega)]
          exact inner (lv + 1) (tv_br ρ lv) (tv_C_br hC h1 h2 h3) (by omega) (by omega) (fun q hq => by rw [(tv_br_facts ρ lv).1 q (by omega)]; exact hfr q hq)
      · refine tv_iconst (x := nI 1) hG dX1_meets_92 rfl ?_
        refine hret _ _ _ _ dX1_meets_93 (by decide) ⟨Or.inl ⟨rfl, ?_⟩, hfr⟩
        rcases hH with ⟨q, _⟩ | ⟨_, q⟩ | ⟨q, _⟩
        · exfalso; omega
        · exact q
        · exfalso; omega
  have main : G 72 [.ref (h 0), .int (nI 4)] [] (tv_i3 σ) := by
    have hC := tv_i3_C (V := V) hQ
    refine tv_iconst (x := nI 0) hG dX1_meets_72 rfl ?_
    refine tv_istore_n (vs1 := [.ref (h 0), .int (nI 0)]) hG dX1_meets_73 rfl (by decide) (Nat.le_of_ble_eq_true rfl) rfl ?_
    refine tv_aload_n hG dX1_meets_74 rfl rfl ?_
    refine tv_callI (As := []) (st := []) hG (tv_cX_goOn l D h d (tv_i3 σ) ok sz V 0 (tv_F_ext hF (tv_i3_k (by decide)) (tv_i3_k (by decide)) (tv_i3_k (by decide))) hC.2.2.2.1) q171 q173 qs9 q22 q174 (ci := 0) rfl rfl 0 (by decide +kernel) rfl rfl ⟨Nat.le_of_ble_eq_true rfl, Nat.le_of_ble_eq_true rfl⟩ rfl rfl (Nat.le_of_ble_eq_true rfl) dX1_meets_75 (fun z τ hg => ?_)
    have hPg := tv_Phi_go hg
    have hkg := tv_go_k hg
    obtain ⟨r, rfl, hr3, hH⟩ := tv_go_Hd hC hg
    have hMr := tv_Mr_le 0 r
    refine tv_istore_n (vs1 := [.ref (h 0), .int (nI 0), .int (nI r)]) hG dX1_meets_78 rfl (by decide) (Nat.le_of_ble_eq_true rfl) rfl ?_
    refine tv_iconst (x := nI 0) hG dX1_meets_79 rfl ?_
    refine tv_istore_n (vs1 := [.ref (h 0), .int (nI 0), .int (nI r), .int (nI 0)]) hG dX1_meets_80 rfl (by decide) (Nat.le_of_ble_eq_true rfl) rfl ?_
    have e1 : tv_Phi τ 0 = 0 := rfl
    have e2 : tv_w 0 = 3280 := by decide +kernel
    exact outer 9841 0 0 r τ (by omega) (by omega) hr3 hH (by omega) (fun q hq => by rw [hkg q (by omega), tv_i3_k (by omega)])
  refine tv_aload_n hG dX1_meets_0 rfl rfl ?_
  refine tv_iconst (x := nI 0) hG dX1_meets_1 rfl ?_
  refine tv_pX_9 hG dX1_meets_2 ?_
  refine tv_aload_n hG dX1_meets_5 rfl rfl ?_
  refine tv_iconst (x := nI 0) hG dX1_meets_6 rfl ?_
  refine tv_pX_10 hG dX1_meets_7 ?_
  refine tv_aload_n hG dX1_meets_10 rfl rfl ?_
  refine tv_gX_16 (v := σ 16 0) hG (by simp [tv_st]) dX1_meets_11 ?_
  refine tv_bipush (x := nI 7) hG dX1_meets_14 rfl ?_
  refine tv_icmp_eq (tgt := 28) hG dX1_meets_16 (by decide) (by omega) (by omega) (fun c3 => ?_) (fun c3 => ?_)
  · refine tv_aload_n hG dX1_meets_28 rfl rfl ?_
    refine tv_gX_17 (v := σ 17 0) hG (by simp [tv_st]) dX1_meets_29 ?_
    refine tv_bipush (x := nI 7) hG dX1_meets_32 rfl ?_
    refine tv_icmp_eq (tgt := 47) hG dX1_meets_34 (by decide) (by omega) (by omega) (fun c4 => ?_) (fun c4 => ?_)
    · refine tv_iconst (x := nI 0) hG dX1_meets_47 rfl ?_
      refine tv_istore_n (vs1 := [.ref (h 0), .int (nI 0)]) hG dX1_meets_48 rfl (by decide) (Nat.le_of_ble_eq_true rfl) rfl ?_
      refine tv_iload_n hG dX1_meets_49 rfl rfl ?_
      refine tv_iconst (x := nI 4) hG dX1_meets_50 rfl ?_
      refine tv_icmp_ge (tgt := 72) hG dX1_meets_51 (by decide) (by omega) (by omega) (fun q => absurd q (by decide)) (fun _ => ?_)
      refine tv_aload_n hG dX1_meets_54 rfl rfl ?_
      refine tv_gX_11 hG dX1_meets_55 ?_
      refine tv_iload_n hG dX1_meets_58 rfl rfl ?_
      refine tv_aload_n hG dX1_meets_59 rfl rfl ?_
      refine tv_gX_18 hG dX1_meets_60 ?_
      refine tv_iload_n hG dX1_meets_63 rfl rfl ?_
      refine tv_lX_18 (v := σ 18 0) hG (by simp [tv_st]) dX1_meets_64 (by omega) ?_
      refine tv_sX_11 hG dX1_meets_65 (by omega) (by omega) ?_
      refine tv_iinc (y := nI 1) (vs1 := [.ref (h 0), .int (nI 1)]) hG dX1_meets_66 rfl (nI_1 _) (by decide) rfl ?_
      refine tv_goto (tgt := 49) hG dX1_meets_69 (by decide) ?_
      refine tv_iload_n hG dX1_meets_49 rfl rfl ?_
      refine tv_iconst (x := nI 4) hG dX1_meets_50 rfl ?_
      refine tv_icmp_ge (tgt := 72) hG dX1_meets_51 (by decide) (by omega) (by omega) (fun q => absurd q (by decide)) (fun _ => ?_)
      refine tv_aload_n hG dX1_meets_54 rfl rfl ?_
      refine tv_gX_11 hG dX1_meets_55 ?_
      refine tv_iload_n hG dX1_meets_58 rfl rfl ?_
      refine tv_aload_n hG dX1_meets_59 rfl rfl ?_
      refine tv_gX_18 hG dX1_meets_60 ?_
      refine tv_iload_n hG dX1_meets_63 rfl rfl ?_
      refine tv_lX_18 (v := σ 18 1) hG (by simp [tv_st]) dX1_meets_64 (by omega) ?_
      refine tv_sX_11 hG dX1_meets_65 (by omega) (by omega) ?_
      refine tv_iinc (y := nI 2) (vs1 := [.ref (h 0), .int (nI 2)]) hG dX1_meets_66 rfl (nI_1 _) (by decide) rfl ?_
      refine tv_goto (tgt := 49) hG dX1_meets_69 (by decide) ?_
      refine tv_iload_n hG dX1_meets_49 rfl rfl ?_
      refine tv_iconst (x := nI 4) hG dX1_meets_50 rfl ?_
      refine tv_icmp_ge (tgt := 72) hG dX1_meets_51 (by decide) (by omega) (by omega) (fun q => absurd q (by decide)) (fun _ => ?_)
      refine tv_aload_n hG dX1_meets_54 rfl rfl ?_
      refine tv_gX_11 hG dX1_meets_55 ?_
      refine tv_iload_n hG dX1_meets_58 rfl rfl ?_
      refine tv_aload_n hG dX1_meets_59 rfl rfl ?_
      refine tv_gX_18 hG dX1_meets_60 ?_
      refine tv_iload_n hG dX1_meets_63 rfl rfl ?_
      refine tv_lX_18 (v := σ 18 2) hG (by simp [tv_st]) dX1_meets_64 (by omega) ?_
      refine tv_sX_11 hG dX1_meets_65 (by omega) (by omega) ?_
      refine tv_iinc (y := nI 3) (vs1 := [.ref (h 0), .int (nI 3)]) hG dX1_meets_66 rfl (nI_1 _) (by decide) rfl ?_
      refine tv_goto (tgt := 49) hG dX1_meets_69 (by decide) ?_
      refine tv_iload_n hG dX1_meets_49 rfl rfl ?_
      refine tv_iconst (x := nI 4) hG dX1_meets_50 rfl ?_
      refine tv_icmp_ge (tgt := 72) hG dX1_meets_51 (by decide) (by omega) (by omega) (fun q => absurd q (by decide)) (fun _ => ?_)
      refine tv_aload_n hG dX1_meets_54 rfl rfl ?_
      refine tv_gX_11 hG dX1_meets_55 ?_
      refine tv_iload_n hG dX1_meets_58 rfl rfl ?_
      refine tv_aload_n hG dX1_meets_59 rfl rfl ?_
      refine tv_gX_18 hG dX1_meets_60 ?_
      refine tv_iload_n hG dX1_meets_63 rfl rfl ?_
      refine tv_lX_18 (v := σ 18 3) hG (by simp [tv_st]) dX1_meets_64 (by omega) ?_
      refine tv_sX_11 hG dX1_meets_65 (by omega) (by omega) ?_
      refine tv_iinc (y := nI 4) (vs1 := [.ref (h 0), .int (nI 4)]) hG dX1_meets_66 rfl (nI_1 _) (by decide) rfl ?_
      refine tv_goto (tgt := 49) hG dX1_meets_69 (by decide) ?_
      refine tv_iload_n hG dX1_meets_49 rfl rfl ?_
      refine tv_iconst (x := nI 4) hG dX1_meets_50 rfl ?_
      refine tv_icmp_ge (tgt := 72) hG dX1_meets_51 (by decide) (by omega) (by omega) (fun _ => ?_) (fun q => absurd q (by decide))
      have e : tv_i3 σ = (tv_st (tv_st (tv_st (tv_st (tv_st (tv_st σ 9 0 0) 10 0 0) 11 0 (σ 18 0)) 11 1 (σ 18 1)) 11 2 (σ 18 2)) 11 3 (σ 18 3)) := by
        unfold tv_i3 tv_i2 tv_i1 tv_i0
        rw [if_pos c3, if_pos c4]
      rw [← e]
      exact main
    · refine tv_aload_n hG dX1_meets_37 rfl rfl ?_
      refine tv_bipush (x := nI 9) hG dX1_meets_38 rfl ?_
      refine tv_aload_n hG dX1_meets_40 rfl rfl ?_
      refine tv_gX_17 (v := σ 17 0) hG (by simp [tv_st]) dX1_meets_41 ?_
      refine tv_callxV (As := [.int (nI 9), .int (nI (σ 17 0))]) (st := []) hG (tv_cX_demand l D h d (tv_st (tv_st σ 9 0 0) 10 0 0) 9 (σ 17 0) (by omega) (by omega) (by first | (simp [tv_st]; done) | (rw [(tv_dem_ok (by simp [tv_st])).1]; simp [tv_st]))) q167 q169 qs8 q22 q170 (ci := 0) rfl rfl 2 (by decide +kernel) rfl rfl ⟨Nat.le_of_ble_eq_true rfl, Nat.le_of_ble_eq_true rfl⟩ rfl rfl (Nat.le_of_ble_eq_true rfl) dX1_meets_44 ?_
      refine tv_iconst (x := nI 0) hG dX1_meets_47 rfl ?_
      refine tv_istore_n (vs1 := [.ref (h 0), .int (nI 0)]) hG dX1_meets_48 rfl (by decide) (Nat.le_of_ble_eq_true rfl) rfl ?_
      refine tv_iload_n hG dX1_meets_49 rfl rfl ?_
      refine tv_iconst (x := nI 4) hG dX1_meets_50 rfl ?_
      refine tv_icmp_ge (tgt := 72) hG dX1_meets_51 (by decide) (by omega) (by omega) (fun q => absurd q (by decide)) (fun _ => ?_)
      refine tv_aload_n hG dX1_meets_54 rfl rfl ?_
      refine tv_gX_11 hG dX1_meets_55 ?_
      refine tv_iload_n hG dX1_meets_58 rfl rfl ?_
      refine tv_aload_n hG dX1_meets_59 rfl rfl ?_
      refine tv_gX_18 hG dX1_meets_60 ?_
      refine tv_iload_n hG dX1_meets_63 rfl rfl ?_
      refine tv_lX_18 (v := σ 18 0) hG (by simp [tv_st, tv_dem_k, tv_rs]) dX1_meets_64 (by omega) ?_
      refine tv_sX_11 hG dX1_meets_65 (by omega) (by omega) ?_
      refine tv_iinc (y := nI 1) (vs1 := [.ref (h 0), .int (nI 1)]) hG dX1_meets_66 rfl (nI_1 _) (by decide) rfl ?_
      refine tv_goto (tgt := 49) hG dX1_meets_69 (by decide) ?_
      refine tv_iload_n hG dX1_meets_49 rfl rfl ?_
      refine tv_iconst (x := nI 4) hG dX1_meets_50 rfl ?_
      refine tv_icmp_ge (tgt := 72) hG dX1_meets_51 (by decide) (by omega) (by omega) (fun q => absurd q (by decide)) (fun _ => ?_)
      refine tv_aload_n hG dX1_meets_54 rfl rfl ?_
      refine tv_gX_11 hG dX1_meets_55 ?_
      refine tv_iload_n hG dX1_meets_58 rfl rfl ?_
      refine tv_aload_n hG dX1_meets_59 rfl rfl ?_
      refine tv_gX_18 hG dX1_meets_60 ?_
      refine tv_iload_n hG dX1_meets_63 rfl rfl ?_
      refine tv_lX_18 (v := σ 18 1) hG (by simp [tv_st, tv_dem_k, tv_rs]) dX1_meets_64 (by omega) ?_
      refine tv_sX_11 hG dX1_meets_65 (by omega) (by omega) ?_
      refine tv_iinc (y := nI 2) (vs1 := [.ref (h 0), .int (nI 2)]) hG dX1_meets_66 rfl (nI_1 _) (by decide) rfl ?_
      refine tv_goto (tgt := 49) hG dX1_meets_69 (by decide) ?_
      refine tv_iload_n hG dX1_meets_49 rfl rfl ?_
      refine tv_iconst (x := nI 4) hG dX1_meets_50 rfl ?_
      refine tv_icmp_ge (tgt := 72) hG dX1_meets_51 (by decide) (by omega) (by omega) (fun q => absurd q (by decide)) (fun _ => ?_)
      refine tv_aload_n hG dX1_meets_54 rfl rfl ?_
      refine tv_gX_11 hG dX1_meets_55 ?_
      refine tv_iload_n hG dX1_meets_58 rfl rfl ?_
      refine tv_aload_n hG dX1_meets_59 rfl rfl ?_
      refine tv_gX_18 hG dX1_meets_60 ?_
      refine tv_iload_n hG dX1_meets_63 rfl rfl ?_
      refine tv_lX_18 (v := σ 18 2) hG (by simp [tv_st, tv_dem_k, tv_rs]) dX1_meets_64 (by omega) ?_
      refine tv_sX_11 hG dX1_meets_65 (by omega) (by omega) ?_
      refine tv_iinc (y := nI 3) (vs1 := [.ref (h 0), .int (nI 3)]) hG dX1_meets_66 rfl (nI_1 _) (by decide) rfl ?_
      refine tv_goto (tgt := 49) hG dX1_meets_69 (by decide) ?_
      refine tv_iload_n hG dX1_meets_49 rfl rfl ?_
      refine tv_iconst (x := nI 4) hG dX1_meets_50 rfl ?_
      refine tv_icmp_ge (tgt := 72) hG dX1_meets_51 (by decide) (by omega) (by omega) (fun q => absurd q (by decide)) (fun _ => ?_)
      refine tv_aload_n hG dX1_meets_54 rfl rfl ?_
      refine tv_gX_11 hG dX1_meets_55 ?_
      refine tv_iload_n hG dX1_meets_58 rfl rfl ?_
      refine tv_aload_n hG dX1_meets_59 rfl rfl ?_
      refine tv_gX_18 hG dX1_meets_60 ?_
      refine tv_iload_n hG dX1_meets_63 rfl rfl ?_
      refine tv_lX_18 (v := σ 18 3) hG (by simp [tv_st, tv_dem_k, tv_rs]) dX1_meets_64 (by omega) ?_
      refine tv_sX_11 hG dX1_meets_65 (by omega) (by omega) ?_
      refine tv_iinc (y := nI 4) (vs1 := [.ref (h 0), .int (nI 4)]) hG dX1_meets_66 rfl (nI_1 _) (by decide) rfl ?_
      refine tv_goto (tgt := 49) hG dX1_meets_69 (by decide) ?_
      refine tv_iload_n hG dX1_meets_49 rfl rfl ?_
      refine tv_iconst (x := nI 4) hG dX1_meets_50 rfl ?_
      refine tv_icmp_ge (tgt := 72) hG dX1_meets_51 (by decide) (by omega) (by omega) (fun _ => ?_) (fun q => absurd q (by decide))
      have e : tv_i3 σ = (tv_st (tv_st (tv_st (tv_st (tv_dem (tv_st (tv_st σ 9 0 0) 10 0 0) 9 (σ 17 0)) 11 0 (σ 18 0)) 11 1 (σ 18 1)) 11 2 (σ 18 2)) 11 3 (σ 18 3)) := by
        unfold tv_i3 tv_i2 tv_i1 tv_i0
        rw [if_pos c3, if_neg c4]
      rw [← e]
      exact main
  · refine tv_aload_n hG dX1_meets_19 rfl rfl ?_
    refine tv_iconst (x := nI 0) hG dX1_meets_20 rfl ?_
    refine tv_aload_n hG dX1_meets_21 rfl rfl ?_
    refine tv_gX_16 (v := σ 16 0) hG (by simp [tv_st]) dX1_meets_22 ?_
    refine tv_callxV (As := [.int (nI 0), .int (nI (σ 16 0))]) (st := []) hG (tv_cX_demand l D h d (tv_st (tv_st σ 9 0 0) 10 0 0) 0 (σ 16 0) (by omega) (by omega) (by simp [tv_st])) q167 q169 qs8 q22 q170 (ci := 0) rfl rfl 2 (by decide +kernel) rfl rfl ⟨Nat.le_of_ble_eq_true rfl, Nat.le_of_ble_eq_true rfl⟩ rfl rfl (Nat.le_of_ble_eq_true rfl) dX1_meets_25 ?_
    refine tv_aload_n hG dX1_meets_28 rfl rfl ?_
    refine tv_gX_17 (v := σ 17 0) hG (by simp [tv_st, tv_dem_k, tv_rs]) dX1_meets_29 ?_
    refine tv_bipush (x := nI 7) hG dX1_meets_32 rfl ?_
    refine tv_icmp_eq (tgt := 47) hG dX1_meets_34 (by decide) (by omega) (by omega) (fun c5 => ?_) (fun c5 => ?_)
    · refine tv_iconst (x := nI 0) hG dX1_meets_47 rfl ?_
      refine tv_istore_n (vs1 := [.ref (h 0), .int (nI 0)]) hG dX1_meets_48 rfl (by decide) (Nat.le_of_ble_eq_true rfl) rfl ?_
      refine tv_iload_n hG dX1_meets_49 rfl rfl ?_
      refine tv_iconst (x := nI 4) hG dX1_meets_50 rfl ?_
      refine tv_icmp_ge (tgt := 72) hG dX1_meets_51 (by decide) (by omega) (by omega) (fun q => absurd q (by decide)) (fun _ => ?_)
      refine tv_aload_n hG dX1_meets_54 rfl rfl ?_
      refine tv_gX_11 hG dX1_meets_55 ?_
      refine tv_iload_n hG dX1_meets_58 rfl rfl ?_
      refine tv_aload_n hG dX1_meets_59 rfl rfl ?_
      refine tv_gX_18 hG dX1_meets_60 ?_
      refine tv_iload_n hG dX1_meets_63 rfl rfl ?_
      refine tv_lX_18 (v := σ 18 0) hG (by simp [tv_st, tv_dem_k, tv_rs]) dX1_meets_64 (by omega) ?_
      refine tv_sX_11 hG dX1_meets_65 (by omega) (by omega) ?_
      refine tv_iinc (y := nI 1) (vs1 := [.ref (h 0), .int (nI 1)]) hG dX1_meets_66 rfl (nI_1 _) (by decide) rfl ?_
      refine tv_goto (tgt := 49) hG dX1_meets_69 (by decide) ?_
      refine tv_iload_n hG dX1_meets_49 rfl rfl ?_
      refine tv_iconst (x := nI 4) hG dX1_meets_50 rfl ?_
      refine tv_icmp_ge (tgt := 72) hG dX1_meets_51 (by decide) (by omega) (by omega) (fun q => absurd q (by decide)) (fun _ => ?_)
      refine tv_aload_n hG dX1_meets_54 rfl rfl ?_
      refine tv_gX_11 hG dX1_meets_55 ?_
      refine tv_iload_n hG dX1_meets_58 rfl rfl ?_
      refine tv_aload_n hG dX1_meets_59 rfl rfl ?_
      refine tv_gX_18 hG dX1_meets_60 ?_
      refine tv_iload_n hG dX1_meets_63 rfl rfl ?_
      refine tv_lX_18 (v := σ 18 1) hG (by simp [tv_st, tv_dem_k, tv_rs]) dX1_meets_64 (by omega) ?_
      refine tv_sX_11 hG dX1_meets_65 (by omega) (by omega) ?_
      refine tv_iinc (y := nI 2) (vs1 := [.ref (h 0), .int (nI 2)]) hG dX1_meets_66 rfl (nI_1 _) (by decide) rfl ?_
      refine tv_goto (tgt := 49) hG dX1_meets_69 (by decide) ?_
      refine tv_iload_n hG dX1_meets_49 rfl rfl ?_
      refine tv_iconst (x := nI 4) hG dX1_meets_50 rfl ?_
      refine tv_icmp_ge (tgt := 72) hG dX1_meets_51 (by decide) (by omega) (by omega) (fun q => absurd q (by decide)) (fun _ => ?_)
      refine tv_aload_n hG dX1_meets_54 rfl rfl ?_
      refine tv_gX_11 hG dX1_meets_55 ?_
      refine tv_iload_n hG dX1_meets_58 rfl rfl ?_
      refine tv_aload_n hG dX1_meets_59 rfl rfl ?_
      refine tv_gX_18 hG dX1_meets_60 ?_
      refine tv_iload_n hG dX1_meets_63 rfl rfl ?_
      refine tv_lX_18 (v := σ 18 2) hG (by simp [tv_st, tv_dem_k, tv_rs]) dX1_meets_64 (by omega) ?_
      refine tv_sX_11 hG dX1_meets_65 (by omega) (by omega) ?_
      refine tv_iinc (y := nI 3) (vs1 := [.ref (h 0), .int (nI 3)]) hG dX1_meets_66 rfl (nI_1 _) (by decide) rfl ?_
      refine tv_goto (tgt := 49) hG dX1_meets_69 (by decide) ?_
      refine tv_iload_n hG dX1_meets_49 rfl rfl ?_
      refine tv_iconst (x := nI 4) hG dX1_meets_50 rfl ?_
      refine tv_icmp_ge (tgt := 72) hG dX1_meets_51 (by decide) (by omega) (by omega) (fun q => absurd q (by decide)) (fun _ => ?_)
      refine tv_aload_n hG dX1_meets_54 rfl rfl ?_
      refine tv_gX_11 hG dX1_meets_55 ?_
      refine tv_iload_n hG dX1_meets_58 rfl rfl ?_
      refine tv_aload_n hG dX1_meets_59 rfl rfl ?_
      refine tv_gX_18 hG dX1_meets_60 ?_
      refine tv_iload_n hG dX1_meets_63 rfl rfl ?_
      refine tv_lX_18 (v := σ 18 3) hG (by simp [tv_st, tv_dem_k, tv_rs]) dX1_meets_64 (by omega) ?_
      refine tv_sX_11 hG dX1_meets_65 (by omega) (by omega) ?_
      refine tv_iinc (y := nI 4) (vs1 := [.ref (h 0), .int (nI 4)]) hG dX1_meets_66 rfl (nI_1 _) (by decide) rfl ?_
      refine tv_goto (tgt := 49) hG dX1_meets_69 (by decide) ?_
      refine tv_iload_n hG dX1_meets_49 rfl rfl ?_
      refine tv_iconst (x := nI 4) hG dX1_meets_50 rfl ?_
      refine tv_icmp_ge (tgt := 72) hG dX1_meets_51 (by decide) (by omega) (by omega) (fun _ => ?_) (fun q => absurd q (by decide))
      have e : tv_i3 σ = (tv_st (tv_st (tv_st (tv_st (tv_dem (tv_st (tv_st σ 9 0 0) 10 0 0) 0 (σ 16 0)) 11 0 (σ 18 0)) 11 1 (σ 18 1)) 11 2 (σ 18 2)) 11 3 (σ 18 3)) := by
        unfold tv_i3 tv_i2 tv_i1 tv_i0
        rw [if_neg c3, if_pos c5]
      rw [← e]
      exact main
    · refine tv_aload_n hG dX1_meets_37 rfl rfl ?_
      refine tv_bipush (x := nI 9) hG dX1_meets_38 rfl ?_
      refine tv_aload_n hG dX1_meets_40 rfl rfl ?_
      refine tv_gX_17 (v := σ 17 0) hG (by simp [tv_st, tv_dem_k, tv_rs]) dX1_meets_41 ?_
      refine tv_callxV (As := [.int (nI 9), .int (nI (σ 17 0))]) (st := []) hG (tv_cX_demand l D h d (tv_dem (tv_st (tv_st σ 9 0 0) 10 0 0) 0 (σ 16 0)) 9 (σ 17 0) (by omega) (by omega) (by first | (simp [tv_st]; done) | (rw [(tv_dem_ok (by simp [tv_st])).1]; simp [tv_st]))) q167 q169 qs8 q22 q170 (ci := 0) rfl rfl 2 (by decide +kernel) rfl rfl ⟨Nat.le_of_ble_eq_true rfl, Nat.le_of_ble_eq_true rfl⟩ rfl rfl (Nat.le_of_ble_eq_true rfl) dX1_meets_44 ?_
      refine tv_iconst (x := nI 0) hG dX1_meets_47 rfl ?_
      refine tv_istore_n (vs1 := [.ref (h 0), .int (nI 0)]) hG dX1_meets_48 rfl (by decide) (Nat.le_of_ble_eq_true rfl) rfl ?_
      refine tv_iload_n hG dX1_meets_49 rfl rfl ?_
      refine tv_iconst (x := nI 4) hG dX1_meets_50 rfl ?_
      refine tv_icmp_ge (tgt := 72) hG dX1_meets_51 (by decide) (by omega) (by omega) (fun q => absurd q (by decide)) (fun _ => ?_)
      refine tv_aload_n hG dX1_meets_54 rfl rfl ?_
      refine tv_gX_11 hG dX1_meets_55 ?_
      refine tv_iload_n hG dX1_meets_58 rfl rfl ?_
      refine tv_aload_n hG dX1_meets_59 rfl rfl ?_
      refine tv_gX_18 hG dX1_meets_60 ?_
      refine tv_iload_n hG dX1_meets_63 rfl rfl ?_
      refine tv_lX_18 (v := σ 18 0) hG (by simp [tv_st, tv_dem_k, tv_rs]) dX1_meets_64 (by omega) ?_
      refine tv_sX_11 hG dX1_meets_65 (by omega) (by omega) ?_
      refine tv_iinc (y := nI 1) (vs1 := [.ref (h 0), .int (nI 1)]) hG dX1_meets_66 rfl (nI_1 _) (by decide) rfl ?_
      refine tv_goto (tgt := 49) hG dX1_meets_69 (by decide) ?_
      refine tv_iload_n hG dX1_meets_49 rfl rfl ?_
      refine tv_iconst (x := nI 4) hG dX1_meets_50 rfl ?_
      refine tv_icmp_ge (tgt := 72) hG dX1_meets_51 (by decide) (by omega) (by omega) (fun q => absurd q (by decide)) (fun _ => ?_)
      refine tv_aload_n hG dX1_meets_54 rfl rfl ?_
      refine tv_gX_11 hG dX1_meets_55 ?_
      refine tv_iload_n hG dX1_meets_58 rfl rfl ?_
      refine tv_aload_n hG dX1_meets_59 rfl rfl ?_
      refine tv_gX_18 hG dX1_meets_60 ?_
      refine tv_iload_n hG dX1_meets_63 rfl rfl ?_
      refine tv_lX_18 (v := σ 18 1) hG (by simp [tv_st, tv_dem_k, tv_rs]) dX1_meets_64 (by omega) ?_
      refine tv_sX_11 hG dX1_meets_65 (by omega) (by omega) ?_
      refine tv_iinc (y := nI 2) (vs1 := [.ref (h 0), .int (nI 2)]) hG dX1_meets_66 rfl (nI_1 _) (by decide) rfl ?_
      refine tv_goto (tgt := 49) hG dX1_meets_69 (by decide) ?_
      refine tv_iload_n hG dX1_meets_49 rfl rfl ?_
      refine tv_iconst (x := nI 4) hG dX1_meets_50 rfl ?_
      refine tv_icmp_ge (tgt := 72) hG dX1_meets_51 (by decide) (by omega) (by omega) (fun q => absurd q (by decide)) (fun _ => ?_)
      refine tv_aload_n hG dX1_meets_54 rfl rfl ?_
      refine tv_gX_11 hG dX1_meets_55 ?_
      refine tv_iload_n hG dX1_meets_58 rfl rfl ?_
      refine tv_aload_n hG dX1_meets_59 rfl rfl ?_
      refine tv_gX_18 hG dX1_meets_60 ?_
      refine tv_iload_n hG dX1_meets_63 rfl rfl ?_
      refine tv_lX_18 (v := σ 18 2) hG (by simp [tv_st, tv_dem_k, tv_rs]) dX1_meets_64 (by omega) ?_
      refine tv_sX_11 hG dX1_meets_65 (by omega) (by omega) ?_
      refine tv_iinc (y := nI 3) (vs1 := [.ref (h 0), .int (nI 3)]) hG dX1_meets_66 rfl (nI_1 _) (by decide) rfl ?_
      refine tv_goto (tgt := 49) hG dX1_meets_69 (by decide) ?_
      refine tv_iload_n hG dX1_meets_49 rfl rfl ?_
      refine tv_iconst (x := nI 4) hG dX1_meets_50 rfl ?_
      refine tv_icmp_ge (tgt := 72) hG dX1_meets_51 (by decide) (by omega) (by omega) (fun q => absurd q (by decide)) (fun _ => ?_)
      refine tv_aload_n hG dX1_meets_54 rfl rfl ?_
      refine tv_gX_11 hG dX1_meets_55 ?_
      refine tv_iload_n hG dX1_meets_58 rfl rfl ?_
      refine tv_aload_n hG dX1_meets_59 rfl rfl ?_
      refine tv_gX_18 hG dX1_meets_60 ?_
      refine tv_iload_n hG dX1_meets_63 rfl rfl ?_
      refine tv_lX_18 (v := σ 18 3) hG (by simp [tv_st, tv_dem_k, tv_rs]) dX1_meets_64 (by omega) ?_
      refine tv_sX_11 hG dX1_meets_65 (by omega) (by omega) ?_
      refine tv_iinc (y := nI 4) (vs1 := [.ref (h 0), .int (nI 4)]) hG dX1_meets_66 rfl (nI_1 _) (by decide) rfl ?_
      refine tv_goto (tgt := 49) hG dX1_meets_69 (by decide) ?_
      refine tv_iload_n hG dX1_meets_49 rfl rfl ?_
      refine tv_iconst (x := nI 4) hG dX1_meets_50 rfl ?_
      refine tv_icmp_ge (tgt := 72) hG dX1_meets_51 (by decide) (by omega) (by omega) (fun _ => ?_) (fun q => absurd q (by decide))
      have e : tv_i3 σ = (tv_st (tv_st (tv_st (tv_st (tv_dem (tv_dem (tv_st (tv_st σ 9 0 0) 10 0 0) 0 (σ 16 0)) 9 (σ 17 0)) 11 0 (σ 18 0)) 11 1 (σ 18 1)) 11 2 (σ 18 2)) 11 3 (σ 18 3)) := by
        unfold tv_i3 tv_i2 tv_i1 tv_i0
        rw [if_neg c3, if_neg c5]
      rw [← e]
      exact main
end
section
set_option maxRecDepth 100000
/-! WALKS: the least assignment -/
def tv_num (a : Nat → Nat) : Nat := 3 * (3 * (3 * (3 * 0 + a 3) + a 2) + a 1) + a 0
/-- behind σ only the search's own cells and the letter lt's set have changed -/
def tv_f18 (σ ρ : tv_M) (lt : Nat) : Prop := (∀ q, q < 7 ∨ 15 < q → q ≠ 18 → ρ q = σ q) ∧ ∀ j, j ≠ lt → ρ 18 j = σ 18 j
theorem tv_p2 : ∀ v, v < 3 → 0 < 1 * 2 ^ v ∧ 1 * 2 ^ v < 8 := by decide +kernel
theorem tv_T_fix {σ ρ : tv_M} {ok : Nat → Prop} {sz : Nat → Nat} {V : (Nat → Nat) → Nat → Nat} {lt v : Nat} (hlt : lt < 4) (hv : v < 3) (hf : tv_f18 σ ρ lt) (hb : (σ 18 lt).testBit v = true) (hF : tv_F σ ok sz V) (hQ : tv_Q σ ok sz) :
    tv_F (tv_st ρ 18 lt (1 * 2 ^ v)) ok sz V ∧ tv_Q (tv_st ρ 18 lt (1 * 2 ^ v)) ok sz ∧ ∀ a, tv_T (tv_st ρ 18 lt (1 * 2 ^ v)) V a ↔ (tv_T σ V a ∧ a lt = v) := by
  obtain ⟨f1, f2⟩ := hf
  have e : ∀ q, q < 7 ∨ 15 < q → q ≠ 18 → tv_st ρ 18 lt (1 * 2 ^ v) q = σ q := fun q h1 h2 => by rw [tv_st_k h2]; exact f1 q h1 h2
  have e18 : ∀ j, tv_st ρ 18 lt (1 * 2 ^ v) 18 j = if j = lt then 1 * 2 ^ v else σ 18 j := by
    intro j
    by_cases h : j = lt
    · rw [h, tv_st_eq, if_pos rfl]
    · rw [tv_st_j h, if_neg h, f2 j h]
  have p2 := tv_p2 v hv
  refine ⟨tv_F_ext hF (e 0 (by omega) (by decide)) (e 1 (by omega) (by decide)) (e 3 (by omega) (by decide)), ?_, ?_⟩
  · unfold tv_Q
    rw [e 16 (by omega) (by decide), e 17 (by omega) (by decide)]
    refine ⟨hQ.1, hQ.2.1, fun j hj => ?_⟩
    rw [e18]
    split
    · exact p2
    · exact hQ.2.2 j hj
  · intro a
    unfold tv_T
    rw [e 16 (by omega) (by decide), e 17 (by omega) (by decide)]
    constructor
    · rintro ⟨h1, h2⟩
      have q := h1 lt hlt
      rw [e18, if_pos rfl] at q
      have q2 := (tv_one_bit v hv (a lt) q.1).mp q.2
      refine ⟨⟨fun j hj => ?_, h2⟩, q2⟩
      by_cases h : j = lt
      · rw [h, q2]; exact ⟨hv, hb⟩
      · have q3 := h1 j hj
        rw [e18, if_neg h] at q3
        exact q3
    · rintro ⟨⟨h1, h2⟩, h3⟩
      refine ⟨fun j hj => ?_, h2⟩
      rw [e18]
      split
      next h =>
        rw [h, h3]
        exact ⟨hv, (tv_one_bit v hv v hv).mpr rfl⟩
      next h => exact h1 j hj
def tv_lvP (ok : Nat → Prop) (sz : Nat → Nat) (V : (Nat → Nat) → Nat → Nat) (σ : tv_M) (lt v : Nat) (τ : tv_M) : Prop :=
  v < 3 ∧ tv_F τ ok sz V ∧ tv_Q τ ok sz ∧ (∀ a, tv_T τ V a ↔ (tv_T σ V a ∧ a lt = v)) ∧ (∃ a, tv_T τ V a) ∧ (∀ a, tv_T σ V a → v ≤ a lt) ∧ ∀ q, q < 7 ∨ 15 < q → q ≠ 18 → τ q = σ q
set_option maxHeartbeats 4000000 in
theorem tv_cX_leastValue (l : Launch) (D : va_G) (h : Nat → Nat) (d : Nat → ClassId) (σ : tv_M) (ok : Nat → Prop) (sz : Nat → Nat) (V : (Nat → Nat) → Nat → Nat) (lt : Nat) (hF : tv_F σ ok sz V) (hQ : tv_Q σ ok sz) (hlt : lt < 4) (hex : ∃ a, tv_T σ V a) : tv_CI l yX1_leastValue cX1_leastValue 4 (some .int) ({ frames := 4, cells := 0, slots := 0, locals := 97 } : Room) D (tv_tX d) (tv_wX h d) [.ref (h 0), .int (nI lt)] σ (fun z τ => ∃ v, z = nI v ∧ tv_lvP ok sz V σ lt v τ) := by
  refine tv_inI (own := RX1) (by decide) rfl (by simp [Value.category]) (Nat.le_of_ble_eq_true rfl) ?_
  intro G hG hret
  obtain ⟨a0, ha0⟩ := hex
  have ho8 := (hQ.2.2 lt hlt).2
  refine tv_aload_n hG dX1_leastValue_0 rfl rfl ?_
  refine tv_gX_18 hG dX1_leastValue_1 ?_
  refine tv_iload_n hG dX1_leastValue_4 rfl rfl ?_
  refine tv_lX_18 (v := σ 18 lt) hG rfl dX1_leastValue_5 (by omega) ?_
  refine tv_istore_n (vs1 := [.ref (h 0), .int (nI lt), .int (nI (σ 18 lt))]) hG dX1_leastValue_6 rfl (by decide) (Nat.le_of_ble_eq_true rfl) rfl ?_
  refine tv_iconst (x := nI 0) hG dX1_leastValue_7 rfl ?_
  refine tv_istore_n (vs1 := [.ref (h 0), .int (nI lt), .int (nI (σ 18 lt)), .int (nI 0)]) hG dX1_leastValue_8 rfl (by decide) (Nat.le_of_ble_eq_true rfl) rfl ?_
  have loop : ∀ (k v : Nat) (ρ : tv_M), v + k = 3 → tv_f18 σ ρ lt → (∀ a, tv_T σ V a → v ≤ a lt) → G 9 [.ref (h 0), .int (nI lt), .int (nI (σ 18 lt)), .int (nI v)] [] ρ := by
    intro k
    induction k with
    | zero =>
      intro v ρ hv hf hlow
      exfalso
      have h1 := hlow a0 ha0
      have h2 := (ha0.1 lt hlt).1
      omega
    | succ k ih =>
      intro v ρ hv hf hlow
      refine tv_iload_n hG dX1_leastValue_9 rfl rfl ?_
      refine tv_iconst (x := nI 3) hG dX1_leastValue_10 rfl ?_
      refine tv_icmp_ge (tgt := 47) hG dX1_leastValue_11 (by decide) (by omega) (by omega) (fun q => by exfalso; omega) (fun _ => ?_)
      refine tv_iload_n hG dX1_leastValue_14 rfl rfl ?_
      refine tv_iload_n hG dX1_leastValue_15 rfl rfl ?_
      refine tv_ishr hG dX1_leastValue_16 (by omega) (by omega) ?_
      refine tv_iconst (x := nI 1) hG dX1_leastValue_17 rfl ?_
      refine tv_iand hG dX1_leastValue_18 ?_
      refine tv_if_eq (tgt := 41) hG dX1_leastValue_19 (by decide) (tv_a1 _) (fun c1 => ?_) (fun c1 => ?_)
      · refine tv_iinc (y := nI (v + 1)) (vs1 := [.ref (h 0), .int (nI lt), .int (nI (σ 18 lt)), .int (nI (v + 1))]) hG dX1_leastValue_41 rfl (nI_1 _) (by decide) rfl ?_
        refine tv_goto (tgt := 9) hG dX1_leastValue_44 (by decide) ?_
        refine ih (v + 1) ρ (by omega) hf (fun a ha => ?_)
        have h1 := hlow a ha
        have h2 : a lt ≠ v := fun q => by have h3 := (ha.1 lt hlt).2; rw [q, tv_bit0.mp c1] at h3; cases h3
        omega
      · have hbit := tv_bit.mp c1
        obtain ⟨hF1, hQ1, hT1⟩ := tv_T_fix hlt (show v < 3 by omega) hf hbit hF hQ
        refine tv_aload_n hG dX1_leastValue_22 rfl rfl ?_
        refine tv_gX_18 hG dX1_leastValue_23 ?_
        refine tv_iload_n hG dX1_leastValue_26 rfl rfl ?_
        refine tv_iconst (x := nI 1) hG dX1_leastValue_27 rfl ?_
        refine tv_iload_n hG dX1_leastValue_28 rfl rfl ?_
        refine tv_ishl hG dX1_leastValue_29 (by omega) (tv_shlt (by omega) (by omega)) ?_
        refine tv_i2b hG dX1_leastValue_30 (by have := tv_p2 v (by omega); omega) ?_
        refine tv_sX_18 hG dX1_leastValue_31 (by omega) (by have := tv_p2 v (by omega); omega) ?_
        refine tv_aload_n hG dX1_leastValue_32 rfl rfl ?_
        refine tv_callI (As := []) (st := []) hG (tv_cX_meets l D h d (tv_st ρ 18 lt (1 * 2 ^ v)) ok sz V hF1 hQ1) q163 q165 qs7 q22 q166 (ci := 0) rfl rfl 0 (by decide +kernel) rfl rfl ⟨Nat.le_of_ble_eq_true rfl, Nat.le_of_ble_eq_true rfl⟩ rfl rfl (Nat.le_of_ble_eq_true rfl) dX1_leastValue_33 (fun z τ hp => ?_)
        obtain ⟨hp, hfr⟩ := hp
        have hf2 : tv_f18 σ τ lt := ⟨fun q h1 h2 => by rw [hfr q h1, tv_st_k h2]; exact hf.1 q h1 h2, fun j hj => by rw [hfr 18 (by omega), tv_st_j hj]; exact hf.2 j hj⟩
        rcases hp with ⟨rfl, hyes⟩ | ⟨rfl, hno⟩
        · refine tv_if_eq (tgt := 41) hG dX1_leastValue_36 (by decide) (by omega) (fun q => absurd q (by decide)) (fun _ => ?_)
          refine tv_iload_n hG dX1_leastValue_39 rfl rfl ?_
          refine hret _ _ _ _ dX1_leastValue_40 ⟨v, rfl, by omega, ?_, ?_, ?_, ?_, hlow, ?_⟩
          · exact tv_F_ext hF1 (hfr 0 (by omega)) (hfr 1 (by omega)) (hfr 3 (by omega))
          · unfold tv_Q; rw [hfr 16 (by omega), hfr 17 (by omega), hfr 18 (by omega)]; exact hQ1
          · intro a; unfold tv_T; rw [hfr 16 (by omega), hfr 17 (by omega), hfr 18 (by omega)]; exact hT1 a
          · obtain ⟨a, ha⟩ := hyes; refine ⟨a, ?_⟩; unfold tv_T; rw [hfr 16 (by omega), hfr 17 (by omega), hfr 18 (by omega)]; exact ha
          · exact hf2.1
        · refine tv_if_eq (tgt := 41) hG dX1_leastValue_36 (by decide) (by omega) (fun _ => ?_) (fun q => absurd q (by decide))
          refine tv_iinc (y := nI (v + 1)) (vs1 := [.ref (h 0), .int (nI lt), .int (nI (σ 18 lt)), .int (nI (v + 1))]) hG dX1_leastValue_41 rfl (nI_1 _) (by decide) rfl ?_
          refine tv_goto (tgt := 9) hG dX1_leastValue_44 (by decide) ?_
          refine ih (v + 1) τ (by omega) hf2 (fun a ha => ?_)
          have h1 := hlow a ha
          have h2 : a lt ≠ v := fun q => hno a ((hT1 a).mpr ⟨ha, q⟩)
          omega
  exact loop 3 0 σ (by omega) ⟨fun _ _ _ => rfl, fun _ _ => rfl⟩ (fun _ _ => Nat.zero_le _)
def tv_leP (V : (Nat → Nat) → Nat → Nat) (σ : tv_M) (z : Int32) : Prop := (z = -1 ∧ ∀ a, ¬ tv_T σ V a) ∨ ∃ a, tv_T σ V a ∧ z = nI (tv_num a) ∧ ∀ b, tv_T σ V b → tv_num a ≤ tv_num b
theorem tv_le_end {ok : Nat → Prop} {sz : Nat → Nat} {V : (Nat → Nat) → Nat → Nat} {σ τ τ3 τ2 τ1 τ0 : tv_M} {v3 v2 v1 v0 : Nat} (hT : ∀ a, tv_T τ V a ↔ tv_T σ V a) (h3 : tv_lvP ok sz V τ 3 v3 τ3) (h2 : tv_lvP ok sz V τ3 2 v2 τ2) (h1 : tv_lvP ok sz V τ2 1 v1 τ1) (h0 : tv_lvP ok sz V τ1 0 v0 τ0) : tv_leP V σ (nI (3 * (3 * (3 * (3 * 0 + v3) + v2) + v1) + v0)) := by
  obtain ⟨-, -, -, a3, -, m3, -⟩ := h3
  obtain ⟨-, -, -, a2, -, m2, -⟩ := h2
  obtain ⟨-, -, -, a1, -, m1, -⟩ := h1
  obtain ⟨-, -, -, a0, ⟨a, ha⟩, m0, -⟩ := h0
  obtain ⟨b0, e0⟩ := (a0 a).mp ha
  obtain ⟨b1, e1⟩ := (a1 a).mp b0
  obtain ⟨b2, e2⟩ := (a2 a).mp b1
  obtain ⟨b3, e3⟩ := (a3 a).mp b2
  have d0 := (b3.1 0 (by decide)).1
  have d1 := (b3.1 1 (by decide)).1
  have d2 := (b3.1 2 (by decide)).1
  have d3 := (b3.1 3 (by decide)).1
  right
  refine ⟨a, (hT a).mp b3, ?_, ?_⟩
  · unfold tv_num
    rw [e0, e1, e2, e3]
  · intro b hb
    have hb := (hT b).mpr hb
    have c0 := (hb.1 0 (by decide)).1
    have c1 := (hb.1 1 (by decide)).1
    have c2 := (hb.1 2 (by decide)).1
    have c3 := (hb.1 3 (by decide)).1
    have n3 := m3 b hb
    unfold tv_num
    by_cases q3 : b 3 = v3
    · have hb := (a3 b).mpr ⟨hb, q3⟩
      have n2 := m2 b hb
      by_cases q2 : b 2 = v2
      · have hb := (a2 b).mpr ⟨hb, q2⟩
        have n1 := m1 b hb
        by_cases q1 : b 1 = v1
        · have hb := (a1 b).mpr ⟨hb, q1⟩
          have n0 := m0 b hb
          omega
        · omega
      · omega
    · omega
set_option maxHeartbeats 4000000 in
theorem tv_cX_least (l : Launch) (D : va_G) (h : Nat → Nat) (d : Nat → ClassId) (σ : tv_M) (ok : Nat → Prop) (sz : Nat → Nat) (V : (Nat → Nat) → Nat → Nat) (hF : tv_F σ ok sz V) (hQ : tv_Q σ ok sz) : tv_CI l yX1_least cX1_least 4 (some .int) ({ frames := 5, cells := 0, slots := 0, locals := 120 } : Room) D (tv_tX d) (tv_wX h d) [.ref (h 0)] σ (fun z τ => tv_leP V σ z ∧ ∀ q, q < 7 ∨ 15 < q → q ≠ 18 → τ q = σ q) := by
  refine tv_inI (own := RX1) (by decide) rfl (by simp [Value.category]) (Nat.le_of_ble_eq_true rfl) ?_
  intro G hG hret
  refine tv_aload_n hG dX1_least_0 rfl rfl ?_
  refine tv_callI (As := []) (st := []) hG (tv_cX_meets l D h d σ ok sz V hF hQ) q163 q165 qs7 q22 q166 (ci := 0) rfl rfl 0 (by decide +kernel) rfl rfl ⟨Nat.le_of_ble_eq_true rfl, Nat.le_of_ble_eq_true rfl⟩ rfl rfl (Nat.le_of_ble_eq_true rfl) dX1_least_1 (fun z τ hp => ?_)
  obtain ⟨hp, hfr⟩ := hp
  have hTτ : ∀ a, tv_T τ V a ↔ tv_T σ V a := fun a => by unfold tv_T; rw [hfr 16 (by omega), hfr 17 (by omega), hfr 18 (by omega)]
  have hFτ : tv_F τ ok sz V := tv_F_ext hF (hfr 0 (by omega)) (hfr 1 (by omega)) (hfr 3 (by omega))
  have hQτ : tv_Q τ ok sz := by unfold tv_Q; rw [hfr 16 (by omega), hfr 17 (by omega), hfr 18 (by omega)]; exact hQ
  rcases hp with ⟨rfl, hyes⟩ | ⟨rfl, hno⟩
  · have hexτ : ∃ a, tv_T τ V a := by obtain ⟨a, ha⟩ := hyes; exact ⟨a, (hTτ a).mpr ha⟩
    refine tv_if_ne (tgt := 9) hG dX1_least_4 (by decide) (by omega) (fun _ => ?_) (fun q => absurd q (by decide))
    refine tv_iconst (x := nI 0) hG dX1_least_9 rfl ?_
    refine tv_istore_n (vs1 := [.ref (h 0), .int (nI 0)]) hG dX1_least_10 rfl (by decide) (Nat.le_of_ble_eq_true rfl) rfl ?_
    refine tv_iconst (x := nI 3) hG dX1_least_11 rfl ?_
    refine tv_istore_n (vs1 := [.ref (h 0), .int (nI 0), .int (nI 3)]) hG dX1_least_12 rfl (by decide) (Nat.le_of_ble_eq_true rfl) rfl ?_
    refine tv_iload_n hG dX1_least_13 rfl rfl ?_
    refine tv_if_lt (tgt := 35) hG dX1_least_14 (by decide) (by omega) ?_
    refine tv_aload_n hG dX1_least_17 rfl rfl ?_
    refine tv_iload_n hG dX1_least_18 rfl rfl ?_
    refine tv_callI (As := [.int (nI 3)]) (st := []) hG (tv_cX_leastValue l D h d τ ok sz V 3 hFτ hQτ (by decide) hexτ) q192 q194 qs14 q22 q195 (ci := 0) rfl rfl 1 (by decide +kernel) rfl rfl ⟨Nat.le_of_ble_eq_true rfl, Nat.le_of_ble_eq_true rfl⟩ rfl rfl (Nat.le_of_ble_eq_true rfl) dX1_least_19 (fun z τ3 hp => ?_)
    obtain ⟨v3, rfl, h3⟩ := hp
    refine tv_istore_n (vs1 := [.ref (h 0), .int (nI 0), .int (nI 3), .int (nI v3)]) hG dX1_least_22 rfl (by decide) (Nat.le_of_ble_eq_true rfl) rfl ?_
    refine tv_iconst (x := nI 3) hG dX1_least_23 rfl ?_
    refine tv_iload_n hG dX1_least_24 rfl rfl ?_
    refine tv_imul hG dX1_least_25 ?_
    refine tv_iload_n hG dX1_least_26 rfl rfl ?_
    refine tv_iadd hG dX1_least_27 ?_
    refine tv_istore_n (vs1 := [.ref (h 0), .int (nI ((3 * 0) + v3)), .int (nI 3), .int (nI v3)]) hG dX1_least_28 rfl (by decide) (Nat.le_of_ble_eq_true rfl) rfl ?_
    refine tv_iinc (y := nI 2) (vs1 := [.ref (h 0), .int (nI ((3 * 0) + v3)), .int (nI 2), .int (nI v3)]) hG dX1_least_29 rfl (by decide) (by decide) rfl ?_
    refine tv_goto (tgt := 13) hG dX1_least_32 (by decide) ?_
    refine tv_iload_n hG dX1_least_13 rfl rfl ?_
    refine tv_if_lt (tgt := 35) hG dX1_least_14 (by decide) (by omega) ?_
    refine tv_aload_n hG dX1_least_17 rfl rfl ?_
    refine tv_iload_n hG dX1_least_18 rfl rfl ?_
    refine tv_callI (As := [.int (nI 2)]) (st := []) hG (tv_cX_leastValue l D h d τ3 ok sz V 2 h3.2.1 h3.2.2.1 (by decide) h3.2.2.2.2.1) q192 q194 qs14 q22 q195 (ci := 0) rfl rfl 1 (by decide +kernel) rfl rfl ⟨Nat.le_of_ble_eq_true rfl, Nat.le_of_ble_eq_true rfl⟩ rfl rfl (Nat.le_of_ble_eq_true rfl) dX1_least_19 (fun z τ2 hp => ?_)
    obtain ⟨v2, rfl, h2⟩ := hp
    refine tv_istore_n (vs1 := [.ref (h 0), .int (nI ((3 * 0) + v3)), .int (nI 2), .int (nI v2)]) hG dX1_least_22 rfl (by decide) (Nat.le_of_ble_eq_true rfl) rfl ?_
    refine tv_iconst (x := nI 3) hG dX1_least_23 rfl ?_
    refine tv_iload_n hG dX1_least_24 rfl rfl ?_
    refine tv_imul hG dX1_least_25 ?_
    refine tv_iload_n hG dX1_least_26 rfl rfl ?_
    refine tv_iadd hG dX1_least_27 ?_
    refine tv_istore_n (vs1 := [.ref (h 0), .int (nI ((3 * ((3 * 0) + v3)) + v2)), .int (nI 2), .int (nI v2)]) hG dX1_least_28 rfl (by decide) (Nat.le_of_ble_eq_true rfl) rfl ?_
    refine tv_iinc (y := nI 1) (vs1 := [.ref (h 0), .int (nI ((3 * ((3 * 0) + v3)) + v2)), .int (nI 1), .int (nI v2)]) hG dX1_least_29 rfl (by decide) (by decide) rfl ?_
    refine tv_goto (tgt := 13) hG dX1_least_32 (by decide) ?_
    refine tv_iload_n hG dX1_least_13 rfl rfl ?_
    refine tv_if_lt (tgt := 35) hG dX1_least_14 (by decide) (by omega) ?_
    refine tv_aload_n hG dX1_least_17 rfl rfl ?_
    refine tv_iload_n hG dX1_least_18 rfl rfl ?_
    refine tv_callI (As := [.int (nI 1)]) (st := []) hG (tv_cX_leastValue l D h d τ2 ok sz V 1 h2.2.1 h2.2.2.1 (by decide) h2.2.2.2.2.1) q192 q194 qs14 q22 q195 (ci := 0) rfl rfl 1 (by decide +kernel) rfl rfl ⟨Nat.le_of_ble_eq_true rfl, Nat.le_of_ble_eq_true rfl⟩ rfl rfl (Nat.le_of_ble_eq_true rfl) dX1_least_19 (fun z τ1 hp => ?_)
    obtain ⟨v1, rfl, h1⟩ := hp
    refine tv_istore_n (vs1 := [.ref (h 0), .int (nI ((3 * ((3 * 0) + v3)) + v2)), .int (nI 1), .int (nI v1)]) hG dX1_least_22 rfl (by decide) (Nat.le_of_ble_eq_true rfl) rfl ?_
    refine tv_iconst (x := nI 3) hG dX1_least_23 rfl ?_
    refine tv_iload_n hG dX1_least_24 rfl rfl ?_
    refine tv_imul hG dX1_least_25 ?_
    refine tv_iload_n hG dX1_least_26 rfl rfl ?_
    refine tv_iadd hG dX1_least_27 ?_
    refine tv_istore_n (vs1 := [.ref (h 0), .int (nI ((3 * ((3 * ((3 * 0) + v3)) + v2)) + v1)), .int (nI 1), .int (nI v1)]) hG dX1_least_28 rfl (by decide) (Nat.le_of_ble_eq_true rfl) rfl ?_
    refine tv_iinc (y := nI 0) (vs1 := [.ref (h 0), .int (nI ((3 * ((3 * ((3 * 0) + v3)) + v2)) + v1)), .int (nI 0), .int (nI v1)]) hG dX1_least_29 rfl (by decide) (by decide) rfl ?_
    refine tv_goto (tgt := 13) hG dX1_least_32 (by decide) ?_
    refine tv_iload_n hG dX1_least_13 rfl rfl ?_
    refine tv_if_lt (tgt := 35) hG dX1_least_14 (by decide) (by omega) ?_
    refine tv_aload_n hG dX1_least_17 rfl rfl ?_
    refine tv_iload_n hG dX1_least_18 rfl rfl ?_
    refine tv_callI (As := [.int (nI 0)]) (st := []) hG (tv_cX_leastValue l D h d τ1 ok sz V 0 h1.2.1 h1.2.2.1 (by decide) h1.2.2.2.2.1) q192 q194 qs14 q22 q195 (ci := 0) rfl rfl 1 (by decide +kernel) rfl rfl ⟨Nat.le_of_ble_eq_true rfl, Nat.le_of_ble_eq_true rfl⟩ rfl rfl (Nat.le_of_ble_eq_true rfl) dX1_least_19 (fun z τ0 hp => ?_)
    obtain ⟨v0, rfl, h0⟩ := hp
    refine tv_istore_n (vs1 := [.ref (h 0), .int (nI ((3 * ((3 * ((3 * 0) + v3)) + v2)) + v1)), .int (nI 0), .int (nI v0)]) hG dX1_least_22 rfl (by decide) (Nat.le_of_ble_eq_true rfl) rfl ?_
    refine tv_iconst (x := nI 3) hG dX1_least_23 rfl ?_
    refine tv_iload_n hG dX1_least_24 rfl rfl ?_
    refine tv_imul hG dX1_least_25 ?_
    refine tv_iload_n hG dX1_least_26 rfl rfl ?_
    refine tv_iadd hG dX1_least_27 ?_
    refine tv_istore_n (vs1 := [.ref (h 0), .int (nI ((3 * ((3 * ((3 * ((3 * 0) + v3)) + v2)) + v1)) + v0)), .int (nI 0), .int (nI v0)]) hG dX1_least_28 rfl (by decide) (Nat.le_of_ble_eq_true rfl) rfl ?_
    refine tv_iinc (y := -1) (vs1 := [.ref (h 0), .int (nI ((3 * ((3 * ((3 * ((3 * 0) + v3)) + v2)) + v1)) + v0)), .int (-1), .int (nI v0)]) hG dX1_least_29 rfl (by decide) (by decide) rfl ?_
    refine tv_goto (tgt := 13) hG dX1_least_32 (by decide) ?_
    refine tv_iload_n hG dX1_least_13 rfl rfl ?_
    refine tv_zif_lt (tgt := 35) hG dX1_least_14 (by decide) (fun _ => ?_) (fun q => absurd q (by decide))
    refine tv_iload_n hG dX1_least_35 rfl rfl ?_
    refine hret _ _ _ _ dX1_least_36 ⟨tv_le_end hTτ h3 h2 h1 h0, fun q h9 h8 => ?_⟩
    rw [h0.2.2.2.2.2.2 q h9 h8, h1.2.2.2.2.2.2 q h9 h8, h2.2.2.2.2.2.2 q h9 h8, h3.2.2.2.2.2.2 q h9 h8, hfr q h9]
  · refine tv_if_ne (tgt := 9) hG dX1_least_4 (by decide) (by omega) (fun q => absurd q (by decide)) (fun _ => ?_)
    refine tv_iconst (x := -1) hG dX1_least_7 rfl ?_
    exact hret _ _ _ _ dX1_least_8 ⟨Or.inl ⟨rfl, hno⟩, fun q h9 _ => hfr q h9⟩
end
section
set_option maxRecDepth 100000
/-! PURE: what is said of a state: tokens t, sizes n, logic lg; assignments by their numbers -/
def tv_dg (k : Nat) : Nat → Nat := fun l => k / 3 ^ l % 3
theorem tv_dg_lt (k l : Nat) : tv_dg k l < 3 := Nat.mod_lt _ (by decide)
theorem tv_num_dg {k : Nat} (h : k ≤ 80) : tv_num (tv_dg k) = k := by
  simp only [tv_num, tv_dg]
  omega
theorem tv_num_le {a : Nat → Nat} (ha : ∀ l, l < 4 → a l < 3) : tv_num a ≤ 80 := by
  have h0 := ha 0 (by decide)
  have h1 := ha 1 (by decide)
  have h2 := ha 2 (by decide)
  have h3 := ha 3 (by decide)
  unfold tv_num
  omega
theorem tv_dg_num {a : Nat → Nat} (ha : ∀ l, l < 4 → a l < 3) : ∀ l, l < 4 → tv_dg (tv_num a) l = a l := by
  intro l hl
  have h0 := ha 0 (by decide)
  have h1 := ha 1 (by decide)
  have h2 := ha 2 (by decide)
  have h3 := ha 3 (by decide)
  unfold tv_num tv_dg
  rcases (show l = 0 ∨ l = 1 ∨ l = 2 ∨ l = 3 by omega) with rfl | rfl | rfl | rfl <;> simp only [Nat.reducePow, Nat.pow_zero, Nat.pow_one] <;> omega
theorem tv_V_cong {t : Nat → Nat} {e lg : Nat} {a b : Nat → Nat} (h : ∀ l, l < 4 → a l = b l) (ht : ∀ c, c < e → t c < 8) (c : Nat) : tv_V t e lg a c = tv_V t e lg b c := by
  have key : ∀ j, j ≤ e → tv_vs t e lg a j = tv_vs t e lg b j := by
    intro j
    induction j with
    | zero => intro _; rfl
    | succ j ih =>
      intro hj
      simp only [tv_vs, ih (by omega)]
      have h8 := ht (e - (j + 1)) (by omega)
      congr 1
      unfold tv_v1
      split
      · exact h _ (by omega)
      · rfl
  unfold tv_V
  rw [key _ (by omega)]
def tv_CP (t n : Nat → Nat) (f : Nat) : Prop := tv_op t (f * 9) (n f) = 0
def tv_EV (t n : Nat → Nat) (lg f k : Nat) : Nat := tv_V t (f * 9 + n f) lg (tv_dg k) (f * 9)
def tv_GS (t n : Nat → Nat) (lg : Nat) : Prop := lg < 3 ∧ (∀ f, f < 2 → n f ≤ 9 ∧ tv_good t (f * 9) (n f)) ∧ ∀ c, c < 18 → t c < 8
def tv_VV (t n : Nat → Nat) (lg : Nat) (a : Nat → Nat) (c : Nat) : Nat := tv_V t (c / 9 * 9 + n (c / 9)) lg a c
def tv_szz (t n : Nat → Nat) (c : Nat) : Nat := tv_sz t (c / 9 * 9 + n (c / 9)) c
def tv_okk (n : Nat → Nat) (A : Nat → Prop) (c : Nat) : Prop := ∃ f, f < 2 ∧ A f ∧ f * 9 ≤ c ∧ c < f * 9 + n f
theorem tv_F_mk {σ : tv_M} {A : Nat → Prop} (hG : tv_GS (σ 1) (σ 2) (σ 0 0)) (hA : ∀ f, f < 2 → A f → tv_CP (σ 1) (σ 2) f ∧ ∀ c, f * 9 ≤ c → c < f * 9 + σ 2 f → 0 < σ 1 c → σ 1 c < 4 → (tv_ps (σ 1) (f * 9 + σ 2 f) (f * 9 + σ 2 f - c - 1))[1]? = some (σ 3 c)) :
    tv_F σ (tv_okk (σ 2) A) (tv_szz (σ 1) (σ 2)) (tv_VV (σ 1) (σ 2) (σ 0 0)) := by
  obtain ⟨g1, g2, g3⟩ := hG
  refine ⟨g1, ?_⟩
  rintro c ⟨f, hf, hAf, hc1, hc2⟩
  obtain ⟨hn, hg⟩ := g2 f hf
  obtain ⟨hcp, hsec⟩ := hA f hf hAf
  have dv : ∀ x, f * 9 ≤ x → x < f * 9 + σ 2 f → x / 9 = f := fun x h1 h2 => by omega
  have hV : ∀ x a, f * 9 ≤ x → x < f * 9 + σ 2 f → tv_VV (σ 1) (σ 2) (σ 0 0) a x = tv_V (σ 1) (f * 9 + σ 2 f) (σ 0 0) a x := fun x a h1 h2 => by
    unfold tv_VV
    rw [dv x h1 h2]
  have hZ : ∀ x, f * 9 ≤ x → x < f * 9 + σ 2 f → tv_szz (σ 1) (σ 2) x = tv_sz (σ 1) (f * 9 + σ 2 f) x := fun x h1 h2 => by
    unfold tv_szz
    rw [dv x h1 h2]
  have hok : ∀ x, f * 9 ≤ x → x < f * 9 + σ 2 f → tv_okk (σ 2) A x := fun x h1 h2 => ⟨f, hf, hAf, h1, h2⟩
  obtain ⟨p1, p2, p3, p4⟩ := tv_piece (lg := σ 0 0) hg hcp hc1 hc2
  refine ⟨by omega, g3 c (by omega), by rw [hZ c hc1 hc2]; exact p1, ?_, ?_, ?_, ?_⟩
  · intro a ha
    rw [hV c a hc1 hc2]
    exact tv_V_lt ha (fun x hx => g3 x (by omega)) c hc2
  · intro h0
    obtain ⟨r1, r2, r3⟩ := p2 h0
    refine ⟨hok _ (by omega) r1, ?_, ?_⟩
    · rw [hZ c hc1 hc2, hZ (c + 1) (by omega) r1]; exact r2
    · intro a
      rw [hV c a hc1 hc2, hV (c + 1) a (by omega) r1]; exact r3 a
  · intro h0 h4
    obtain ⟨s, r1, r2, r3, r4, r5, r6⟩ := p3 h0 h4
    have es : σ 3 c = s := by
      have := hsec c hc1 hc2 h0 h4
      rw [r1] at this
      exact (Option.some.inj this).symm
    rw [es]
    refine ⟨hok _ (by omega) r2, hok s (by omega) r4, ?_, ?_⟩
    · rw [hZ c hc1 hc2, hZ (c + 1) (by omega) r2, hZ s (by omega) r4]; exact r5
    · intro a
      rw [hV c a hc1 hc2, hV (c + 1) a (by omega) r2, hV s a (by omega) r4]; exact r6 a
  · intro h4 a
    rw [hV c a hc1 hc2]
    exact p4 h4 a
theorem tv_root {t n : Nat → Nat} {lg f : Nat} {A : Nat → Prop} (hG : tv_GS t n lg) (hf : f < 2) (hA : A f) (hcp : tv_CP t n f) : tv_okk n A (f * 9) ∧ tv_szz t n (f * 9) ≤ 9 := by
  obtain ⟨hn, hg⟩ := hG.2.1 f hf
  have hpos : 0 < n f := by
    rcases Nat.eq_zero_or_pos (n f) with h | h
    · unfold tv_CP at hcp
      rw [h] at hcp
      simp [tv_op] at hcp
    · exact h
  refine ⟨⟨f, hf, hA, Nat.le_refl _, by omega⟩, ?_⟩
  unfold tv_szz tv_sz
  rw [show f * 9 / 9 = f by omega]
  have h1 := tv_ps_1 (t := t) (e := f * 9 + n f) (c := f * 9) (i := 1) (by omega) (by omega)
  have h2 : (tv_ps t (f * 9 + n f) (f * 9 + n f - f * 9)).getD 1 (f * 9 + n f) ≤ f * 9 + n f := by
    rw [List.getD_eq_getElem?_getD]
    cases hx : (tv_ps t (f * 9 + n f) (f * 9 + n f - f * 9))[1]? with
    | none => simp
    | some x =>
      have := tv_ps_suf _ (by omega) 1 x hx
      simp only [Option.getD_some]
      omega
  omega
theorem tv_VV_EV (t n : Nat → Nat) (lg f k : Nat) : tv_VV t n lg (tv_dg k) (f * 9) = tv_EV t n lg f k := by
  unfold tv_VV tv_EV
  rw [show f * 9 / 9 = f by omega]
theorem tv_EV_lt {t n : Nat → Nat} {lg f : Nat} (hG : tv_GS t n lg) (hf : f < 2) (hcp : tv_CP t n f) (k : Nat) : tv_EV t n lg f k < 3 := by
  obtain ⟨hn, hg⟩ := hG.2.1 f hf
  have hpos : 0 < n f := by
    rcases Nat.eq_zero_or_pos (n f) with h | h
    · unfold tv_CP at hcp
      rw [h] at hcp
      simp [tv_op] at hcp
    · exact h
  exact tv_V_lt (fun l _ => tv_dg_lt k l) (fun c hc => hG.2.2 c (by omega)) _ (by omega)
theorem tv_VV_cong {t n : Nat → Nat} {lg : Nat} (hG : tv_GS t n lg) {a b : Nat → Nat} (h : ∀ l, l < 4 → a l = b l) {c : Nat} (hc : c < 18) : tv_VV t n lg a c = tv_VV t n lg b c := by
  unfold tv_VV
  have := (hG.2.1 (c / 9) (by omega)).1
  exact tv_V_cong h (fun x hx => hG.2.2 x (by omega)) c
/-- the least number with P, up to 80, or -1 -/
def tv_Lst (P : Nat → Prop) (z : Int32) : Prop := (z = -1 ∧ ∀ k, k ≤ 80 → ¬ P k) ∨ ∃ k, k ≤ 80 ∧ z = nI k ∧ P k ∧ ∀ j, j < k → ¬ P j
theorem tv_Lst_uni {P : Nat → Prop} {z u : Int32} (h1 : tv_Lst P z) (h2 : tv_Lst P u) : z = u := by
  rcases h1 with ⟨e1, n1⟩ | ⟨k, k1, k2, k3, k4⟩ <;> rcases h2 with ⟨e2, n2⟩ | ⟨j, j1, j2, j3, j4⟩
  · rw [e1, e2]
  · exact absurd j3 (n1 j j1)
  · exact absurd k3 (n2 k k1)
  · rcases Nat.lt_trichotomy k j with q | q | q
    · exact absurd k3 (j4 k q)
    · rw [k2, j2, q]
    · exact absurd j3 (k4 j q)
theorem tv_T_cong {σ : tv_M} {V : (Nat → Nat) → Nat → Nat} (hV : ∀ a b, (∀ l, l < 4 → a l = b l) → V a 0 = V b 0 ∧ V a 9 = V b 9) {a b : Nat → Nat} (h : ∀ l, l < 4 → a l = b l) (hT : tv_T σ V a) : tv_T σ V b := by
  obtain ⟨h1, h2, h3⟩ := hT
  have e := hV a b h
  rw [e.1] at h2
  rw [e.2] at h3
  exact ⟨fun l hl => by rw [← h l hl]; exact h1 l hl, h2, h3⟩
theorem tv_le_Lst {σ : tv_M} {V : (Nat → Nat) → Nat → Nat} {P : Nat → Prop} {z : Int32} (hV : ∀ a b, (∀ l, l < 4 → a l = b l) → V a 0 = V b 0 ∧ V a 9 = V b 9) (h : tv_leP V σ z) (hP : ∀ k, k ≤ 80 → (P k ↔ tv_T σ V (tv_dg k))) : tv_Lst P z := by
  rcases h with ⟨e1, n1⟩ | ⟨a, a1, a2, a3⟩
  · exact Or.inl ⟨e1, fun k hk q => n1 _ ((hP k hk).mp q)⟩
  · right
    have ha3 : ∀ l, l < 4 → a l < 3 := fun l hl => (a1.1 l hl).1
    have h80 := tv_num_le ha3
    refine ⟨tv_num a, h80, a2, (hP _ h80).mpr (tv_T_cong hV (fun l hl => (tv_dg_num ha3 l hl).symm) a1), ?_⟩
    intro j hj q
    have := a3 _ ((hP j (by omega)).mp q)
    rw [tv_num_dg (by omega)] at this
    omega
theorem tv_ex_k {σ : tv_M} {V : (Nat → Nat) → Nat → Nat} (hV : ∀ a b, (∀ l, l < 4 → a l = b l) → V a 0 = V b 0 ∧ V a 9 = V b 9) : (∃ a, tv_T σ V a) ↔ ∃ k, k ≤ 80 ∧ tv_T σ V (tv_dg k) := by
  constructor
  · rintro ⟨a, ha⟩
    have ha3 : ∀ l, l < 4 → a l < 3 := fun l hl => (ha.1 l hl).1
    exact ⟨tv_num a, tv_num_le ha3, tv_T_cong hV (fun l hl => (tv_dg_num ha3 l hl).symm) ha⟩
  · rintro ⟨k, -, hk⟩
    exact ⟨_, hk⟩
theorem tv_VVc {t n : Nat → Nat} {lg : Nat} (hG : tv_GS t n lg) : ∀ a b : Nat → Nat, (∀ l, l < 4 → a l = b l) → tv_VV t n lg a 0 = tv_VV t n lg b 0 ∧ tv_VV t n lg a 9 = tv_VV t n lg b 9 := fun _ _ h => ⟨tv_VV_cong hG h (by decide), tv_VV_cong hG h (by decide)⟩
theorem tv_7 : ∀ x, x < 3 → Nat.testBit 7 x = true := by decide +kernel
/-! the question asked, all letters free -/
theorem tv_ask_k {σ : tv_M} {f g q : Nat} (h : q < 16 ∨ 18 < q) : tv_ask σ f g q = σ q := by
  unfold tv_ask
  rw [tv_st_k (by omega), tv_st_k (by omega), tv_st_k (by omega), tv_st_k (by omega), tv_st_k (by omega), tv_st_k (by omega)]
theorem tv_ask_16 (σ : tv_M) (f g : Nat) : tv_ask σ f g 16 0 = f ∧ tv_ask σ f g 17 0 = g := by
  constructor <;> simp [tv_ask, tv_st]
theorem tv_ask_18 (σ : tv_M) (f g : Nat) : ∀ l, l < 4 → tv_ask σ f g 18 l = 7 := by
  intro l hl
  rcases (show l = 0 ∨ l = 1 ∨ l = 2 ∨ l = 3 by omega) with rfl | rfl | rfl | rfl <;> simp [tv_ask, tv_st]
theorem tv_T_ask {σ : tv_M} {V : (Nat → Nat) → Nat → Nat} {f g k : Nat} : tv_T (tv_ask σ f g) V (tv_dg k) ↔ ((f ≠ 7 → f.testBit (V (tv_dg k) 0) = true) ∧ (g ≠ 7 → g.testBit (V (tv_dg k) 9) = true)) := by
  unfold tv_T
  rw [(tv_ask_16 σ f g).1, (tv_ask_16 σ f g).2]
  constructor
  · exact fun h => h.2
  · intro h
    refine ⟨fun l hl => ⟨tv_dg_lt k l, ?_⟩, h⟩
    rw [tv_ask_18 σ f g l hl]
    exact tv_7 _ (tv_dg_lt k l)
theorem tv_Q_ask {σ : tv_M} {ok : Nat → Prop} {sz : Nat → Nat} {f g : Nat} (hf : 0 < f ∧ f < 8 ∧ (f ≠ 7 → ok 0 ∧ sz 0 ≤ 9)) (hg : 0 < g ∧ g < 8 ∧ (g ≠ 7 → ok 9 ∧ sz 9 ≤ 9)) : tv_Q (tv_ask σ f g) ok sz := by
  unfold tv_Q
  rw [(tv_ask_16 σ f g).1, (tv_ask_16 σ f g).2]
  refine ⟨hf, hg, fun l hl => ?_⟩
  rw [tv_ask_18 σ f g l hl]
  decide
/-! one formula f asked for the values S -/
def tv_a1f (f S : Nat) : Nat := if f = 0 then S else 7
def tv_a1g (f S : Nat) : Nat := if f = 0 then 7 else S
theorem tv_one_T {t n : Nat → Nat} {lg f S k : Nat} {σ : tv_M} (hf : f < 2) (hS : S ≠ 7) : tv_T (tv_ask σ (tv_a1f f S) (tv_a1g f S)) (tv_VV t n lg) (tv_dg k) ↔ S.testBit (tv_EV t n lg f k) = true := by
  rw [tv_T_ask, ← tv_VV_EV]
  rcases (show f = 0 ∨ f = 1 by omega) with rfl | rfl
  · simp [tv_a1f, tv_a1g, hS]
  · simp [tv_a1f, tv_a1g, hS]
theorem tv_one_Q {t n : Nat → Nat} {lg f S : Nat} {σ : tv_M} {A : Nat → Prop} (hG : tv_GS t n lg) (hf : f < 2) (hA : A f) (hcp : tv_CP t n f) (hS : 0 < S ∧ S < 8) : tv_Q (tv_ask σ (tv_a1f f S) (tv_a1g f S)) (tv_okk n A) (tv_szz t n) := by
  have hr := tv_root hG hf hA hcp
  rcases (show f = 0 ∨ f = 1 by omega) with rfl | rfl
  · exact tv_Q_ask ⟨hS.1, hS.2, fun _ => hr⟩ ⟨(by decide : 0 < 7), (by decide : 7 < 8), fun q => absurd rfl q⟩
  · exact tv_Q_ask ⟨(by decide : 0 < 7), (by decide : 7 < 8), fun q => absurd rfl q⟩ ⟨hS.1, hS.2, fun _ => hr⟩
/-! both formulas asked -/
theorem tv_two_T {t n : Nat → Nat} {lg S U k : Nat} {σ : tv_M} (hS : S ≠ 7) (hU : U ≠ 7) : tv_T (tv_ask σ S U) (tv_VV t n lg) (tv_dg k) ↔ (S.testBit (tv_EV t n lg 0 k) = true ∧ U.testBit (tv_EV t n lg 1 k) = true) := by
  rw [tv_T_ask, ← tv_VV_EV, ← tv_VV_EV]
  exact ⟨fun h => ⟨h.1 hS, h.2 hU⟩, fun h => ⟨fun _ => h.1, fun _ => h.2⟩⟩
theorem tv_two_Q {t n : Nat → Nat} {lg S U : Nat} {σ : tv_M} {A : Nat → Prop} (hG : tv_GS t n lg) (hA : A 0 ∧ A 1) (hcp : tv_CP t n 0 ∧ tv_CP t n 1) (hS : 0 < S ∧ S < 8) (hU : 0 < U ∧ U < 8) : tv_Q (tv_ask σ S U) (tv_okk n A) (tv_szz t n) :=
  tv_Q_ask ⟨hS.1, hS.2, fun _ => tv_root (f := 0) hG (by decide) hA.1 hcp.1⟩ ⟨hU.1, hU.2, fun _ => tv_root (f := 1) hG (by decide) hA.2 hcp.2⟩
/-! a formula read, or both -/
theorem tv_rd_GS {σ : tv_M} {f : Nat} (hf : f < 2) (hG : tv_GS (σ 1) (σ 2) (σ 0 0)) : ∀ q, q < 3 ∨ 6 < q → tv_rd σ f (σ 2 f) q = σ q := (tv_rd_end hf (hG.2.1 f hf).1 (hG.2.1 f hf).2).1
theorem tv_F_one {σ τ : tv_M} {f : Nat} (hf : f < 2) (hG : tv_GS (σ 1) (σ 2) (σ 0 0)) (hcp : tv_CP (σ 1) (σ 2) f) (h0 : τ 0 = σ 0) (h1 : τ 1 = σ 1) (h3 : τ 3 = tv_rd σ f (σ 2 f) 3) : tv_F τ (tv_okk (σ 2) (fun q => q = f)) (tv_szz (σ 1) (σ 2)) (tv_VV (σ 1) (σ 2) (σ 0 0)) := by
  obtain ⟨hn, hg⟩ := hG.2.1 f hf
  obtain ⟨e1, e2, e3, e4, e5⟩ := tv_rd_end hf hn hg
  have k := tv_F_mk (σ := tv_rd σ f (σ 2 f)) (A := fun q => q = f)
  rw [e1 0 (by omega), e1 1 (by omega), e1 2 (by omega)] at k
  refine tv_F_ext (k hG ?_) (by rw [h0, e1 0 (by omega)]) (by rw [h1, e1 1 (by omega)]) h3
  rintro q hq rfl
  exact ⟨hcp, e4 hcp⟩
theorem tv_F_two {σ τ : tv_M} (hG : tv_GS (σ 1) (σ 2) (σ 0 0)) (hcp : tv_CP (σ 1) (σ 2) 0 ∧ tv_CP (σ 1) (σ 2) 1) (h0 : τ 0 = σ 0) (h1 : τ 1 = σ 1) (h3 : τ 3 = tv_rd (tv_rd σ 0 (σ 2 0)) 1 (tv_rd σ 0 (σ 2 0) 2 1) 3) : tv_F τ (tv_okk (σ 2) (fun _ => True)) (tv_szz (σ 1) (σ 2)) (tv_VV (σ 1) (σ 2) (σ 0 0)) := by
  obtain ⟨hn, hg⟩ := hG.2.1 0 (by decide)
  obtain ⟨e1, e2, e3, e4, e5⟩ := tv_rd_end (f := 0) (by decide) hn hg
  generalize hρ : tv_rd σ 0 (σ 2 0) = ρ at *
  have r0 := e1 0 (by omega)
  have r1 := e1 1 (by omega)
  have r2 := e1 2 (by omega)
  obtain ⟨hn1, hg1⟩ := hG.2.1 1 (by decide)
  have hn1' : ρ 2 1 ≤ 9 := by rw [r2]; exact hn1
  have hg1' : tv_good (ρ 1) (1 * 9) (ρ 2 1) := by rw [r1, r2]; exact hg1
  obtain ⟨d1, d2, d3, d4, d5⟩ := tv_rd_end (σ := ρ) (f := 1) (by decide) hn1' hg1'
  rw [r2] at h3 d1 d2
  rw [r1, r2] at d4
  have k := tv_F_mk (σ := tv_rd ρ 1 (σ 2 1)) (A := fun _ => True)
  rw [d1 0 (by omega), d1 1 (by omega), d1 2 (by omega), r0, r1, r2] at k
  refine tv_F_ext (k hG ?_) (by rw [h0, d1 0 (by omega), r0]) (by rw [h1, d1 1 (by omega), r1]) h3
  intro q hq _
  rcases (show q = 0 ∨ q = 1 by omega) with rfl | rfl
  · refine ⟨hcp.1, ?_⟩
    intro c c1 c2 c3 c4
    have h9 := (hG.2.1 0 (by decide)).1
    have q := e4 hcp.1 c c1 c2 c3 c4
    rw [d2 c (by omega)]
    exact q
  · exact ⟨hcp.2, d4 hcp.2⟩
theorem tv_fcase (g : Int32) : (∃ f, f < 2 ∧ g = nI f) ∨ ¬ (g = 0 ∨ g = 1) := by
  by_cases h : g = 0 ∨ g = 1
  · rcases h with h | h
    · exact Or.inl ⟨0, by decide, by rw [h]; decide⟩
    · exact Or.inl ⟨1, by decide, by rw [h]; decide⟩
  · exact Or.inr h
theorem tv_rcase (x M : Int32) (m : Nat) (hM : M.toInt = m) : (∃ k, k ≤ m ∧ x = nI k) ∨ x < 0 ∨ M < x := by
  by_cases h0 : x < 0
  · exact Or.inr (Or.inl h0)
  · by_cases h1 : M < x
    · exact Or.inr (Or.inr h1)
    · exact Or.inl (nI_of2 hM h0 (Int32.not_lt.mp h1))
theorem tv_vcase (v : Int32) : (∃ x, x < 3 ∧ v = nI x) ∨ ¬ (¬ v < 0 ∧ v < 3) := by
  rcases tv_rcase v 2 2 (by decide) with ⟨k, h1, h2⟩ | h | h
  · exact Or.inl ⟨k, by omega, h2⟩
  · exact Or.inr (fun q => q.1 h)
  · refine Or.inr (fun q => ?_)
    have h1 := Int32.lt_iff_toInt_lt.mp h
    have h2 := Int32.lt_iff_toInt_lt.mp q.2
    have e2 : (2 : Int32).toInt = 2 := by decide
    have e3 : (3 : Int32).toInt = 3 := by decide
    omega
theorem tv_nI2 {a b : Nat} (ha : a < 1000) (hb : b < 1000) : nI a = nI b ↔ a = b := nI_eq (by omega) (by omega)
end
section
set_option maxRecDepth 100000
/-! PURE: what the answers must be, the same words for both classes -/
def tv_Bl (P : Prop) (z : Int32) : Prop := (z = nI 1 ∧ P) ∨ (z = nI 0 ∧ ¬ P)
theorem tv_Bl_uni {P : Prop} {z u : Int32} (h1 : tv_Bl P z) (h2 : tv_Bl P u) : z = u := by
  rcases h1 with ⟨e1, p1⟩ | ⟨e1, p1⟩ <;> rcases h2 with ⟨e2, p2⟩ | ⟨e2, p2⟩
  · rw [e1, e2]
  · exact absurd p1 p2
  · exact absurd p2 p1
  · rw [e1, e2]
def tv_Vs (P : Nat → Prop) (z : Int32) : Prop := ∃ s, s < 8 ∧ z = nI s ∧ ∀ v, v < 3 → (s.testBit v = true ↔ P v)
theorem tv_Vs_uni {P : Nat → Prop} {z u : Int32} (h1 : tv_Vs P z) (h2 : tv_Vs P u) : z = u := by
  obtain ⟨s, s1, s2, s3⟩ := h1
  obtain ⟨r, r1, r2, r3⟩ := h2
  rw [s2, r2, tv_set_ext s s1 r r1 (fun x hx => ?_)]
  have e := (s3 x hx).trans (r3 x hx).symm
  cases h1 : s.testBit x <;> cases h2 : r.testBit x <;> simp_all
section
variable (t n : Nat → Nat) (lg : Nat)
def tv_pC (g : Int32) : Int32 → Prop := tv_Bl (∃ f, f < 2 ∧ g = nI f ∧ tv_CP t n f)
def tv_pVal (g x : Int32) (z : Int32) : Prop := (∃ f k, f < 2 ∧ g = nI f ∧ k ≤ 80 ∧ x = nI k ∧ tv_CP t n f ∧ z = nI (tv_EV t n lg f k)) ∨ (z = -1 ∧ ¬ ∃ f k, f < 2 ∧ g = nI f ∧ k ≤ 80 ∧ x = nI k ∧ tv_CP t n f)
def tv_pFind (g v : Int32) : Int32 → Prop := tv_Lst (fun k => ∃ f, f < 2 ∧ g = nI f ∧ tv_CP t n f ∧ nI (tv_EV t n lg f k) = v)
def tv_pVs (g : Int32) : Int32 → Prop := tv_Vs (fun v => ∃ k f, k ≤ 80 ∧ f < 2 ∧ g = nI f ∧ tv_CP t n f ∧ tv_EV t n lg f k = v)
def tv_pValid (g : Int32) : Int32 → Prop := tv_Bl (∃ f, f < 2 ∧ g = nI f ∧ tv_CP t n f ∧ ∀ k, k ≤ 80 → tv_EV t n lg f k = 2)
def tv_pBoth (v w : Int32) : Int32 → Prop := tv_Lst (fun k => tv_CP t n 0 ∧ tv_CP t n 1 ∧ nI (tv_EV t n lg 0 k) = v ∧ nI (tv_EV t n lg 1 k) = w)
def tv_pEnt : Int32 → Prop := tv_Bl (tv_CP t n 0 ∧ tv_CP t n 1 ∧ ∀ k, k ≤ 80 → tv_EV t n lg 0 k = 2 → tv_EV t n lg 1 k = 2)
def tv_pBel : Int32 → Prop := tv_Bl (tv_CP t n 0 ∧ tv_CP t n 1 ∧ ∀ k, k ≤ 80 → tv_EV t n lg 0 k ≤ tv_EV t n lg 1 k)
def tv_pAli : Int32 → Prop := tv_Bl (tv_CP t n 0 ∧ tv_CP t n 1 ∧ ∀ k, k ≤ 80 → tv_EV t n lg 0 k = tv_EV t n lg 1 k)
def tv_pApart (g x : Int32) : Int32 → Prop := tv_Lst (fun k => ∃ f lt, f < 2 ∧ g = nI f ∧ lt < 4 ∧ x = nI lt ∧ tv_CP t n f ∧ tv_EV t n lg f k ≠ tv_dg k lt)
end
def tv_upd (t : Nat → Nat) (c v : Nat) : Nat → Nat := fun j => if j = c then v else t j
def tv_pFeed (t n : Nat → Nat) (g x : Int32) (z : Int32) (t' n' : Nat → Nat) : Prop :=
  (∃ f tk, f < 2 ∧ g = nI f ∧ tk ≤ 7 ∧ x = nI tk ∧ n f < 9 ∧ ¬ tv_CP t n f ∧ z = nI (n f + 1) ∧ t' = tv_upd t (f * 9 + n f) tk ∧ n' = tv_upd n f (n f + 1)) ∨
  ((¬ ∃ f tk, f < 2 ∧ g = nI f ∧ tk ≤ 7 ∧ x = nI tk ∧ n f < 9 ∧ ¬ tv_CP t n f) ∧ z = -1 ∧ t' = t ∧ n' = n)
def tv_pBack (t n : Nat → Nat) (g : Int32) (z : Int32) (t' n' : Nat → Nat) : Prop :=
  (∃ f, f < 2 ∧ g = nI f ∧ 0 < n f ∧ z = nI (t (f * 9 + (n f - 1))) ∧ t' = t ∧ n' = tv_upd n f (n f - 1)) ∨ ((¬ ∃ f, f < 2 ∧ g = nI f ∧ 0 < n f) ∧ z = -1 ∧ t' = t ∧ n' = n)
theorem tv_inj {a b : Nat} (ha : a < 1000) (hb : b < 1000) (h : nI a = nI b) : a = b := (tv_nI2 ha hb).mp h
theorem tv_bad_f {g : Int32} {f : Nat} (hb : ¬ (g = 0 ∨ g = 1)) (hf : f < 2) : ¬ g = nI f := by
  intro h
  rcases (show f = 0 ∨ f = 1 by omega) with rfl | rfl
  · exact hb (Or.inl (by rw [h]; decide))
  · exact hb (Or.inr (by rw [h]; decide))
theorem tv_bad_v {v : Int32} {e : Nat} (hb : ¬ (¬ v < 0 ∧ v < 3)) (he : e < 3) : ¬ nI e = v := by
  intro h
  apply hb
  rw [← h]
  rcases (show e = 0 ∨ e = 1 ∨ e = 2 by omega) with rfl | rfl | rfl <;> decide
theorem tv_bad_r {x M : Int32} {m k : Nat} (hM : M.toInt = m) (hm : m < 1000) (hb : x < 0 ∨ M < x) (hk : k ≤ m) : ¬ x = nI k := by
  intro h
  have e : x.toInt = k := by rw [h]; exact nI_toInt (by omega)
  rcases hb with q | q
  · have q := Int32.lt_iff_toInt_lt.mp q
    rw [Int32.toInt_zero] at q
    omega
  · have q := Int32.lt_iff_toInt_lt.mp q
    omega
theorem tv_pFeed_uni {t n t1 n1 t2 n2 : Nat → Nat} {g x z u : Int32} (h1 : tv_pFeed t n g x z t1 n1) (h2 : tv_pFeed t n g x u t2 n2) : z = u ∧ t1 = t2 ∧ n1 = n2 := by
  rcases h1 with ⟨f, tk, a1, a2, a3, a4, a5, a6, a7, a8, a9⟩ | ⟨a1, a2, a3, a4⟩ <;> rcases h2 with ⟨f', tk', b1, b2, b3, b4, b5, b6, b7, b8, b9⟩ | ⟨b1, b2, b3, b4⟩
  · have e1 : f = f' := tv_inj (by omega) (by omega) (a2.symm.trans b2)
    have e2 : tk = tk' := tv_inj (by omega) (by omega) (a4.symm.trans b4)
    subst e1; subst e2
    exact ⟨a7.trans b7.symm, a8.trans b8.symm, a9.trans b9.symm⟩
  · exact absurd ⟨f, tk, a1, a2, a3, a4, a5, a6⟩ b1
  · exact absurd ⟨f', tk', b1, b2, b3, b4, b5, b6⟩ a1
  · exact ⟨a2.trans b2.symm, a3.trans b3.symm, a4.trans b4.symm⟩
theorem tv_pBack_uni {t n t1 n1 t2 n2 : Nat → Nat} {g z u : Int32} (h1 : tv_pBack t n g z t1 n1) (h2 : tv_pBack t n g u t2 n2) : z = u ∧ t1 = t2 ∧ n1 = n2 := by
  rcases h1 with ⟨f, a1, a2, a3, a4, a5, a6⟩ | ⟨a1, a2, a3, a4⟩ <;> rcases h2 with ⟨f', b1, b2, b3, b4, b5, b6⟩ | ⟨b1, b2, b3, b4⟩
  · have e1 : f = f' := tv_inj (by omega) (by omega) (a2.symm.trans b2)
    subst e1
    exact ⟨a4.trans b4.symm, a5.trans b5.symm, a6.trans b6.symm⟩
  · exact absurd ⟨f, a1, a2, a3⟩ b1
  · exact absurd ⟨f', b1, b2, b3⟩ a1
  · exact ⟨a2.trans b2.symm, a3.trans b3.symm, a4.trans b4.symm⟩
theorem tv_pVal_uni {t n : Nat → Nat} {lg : Nat} {g x z u : Int32} (h1 : tv_pVal t n lg g x z) (h2 : tv_pVal t n lg g x u) : z = u := by
  rcases h1 with ⟨f, k, a1, a2, a3, a4, a5, a6⟩ | ⟨a1, a2⟩ <;> rcases h2 with ⟨f', k', b1, b2, b3, b4, b5, b6⟩ | ⟨b1, b2⟩
  · have e1 : f = f' := tv_inj (by omega) (by omega) (a2.symm.trans b2)
    have e2 : k = k' := tv_inj (by omega) (by omega) (a4.symm.trans b4)
    subst e1; subst e2
    exact a6.trans b6.symm
  · exact absurd ⟨f, k, a1, a2, a3, a4, a5⟩ b2
  · exact absurd ⟨f', k', b1, b2, b3, b4, b5⟩ a2
  · exact a1.trans b1.symm
theorem tv_op_ext {t t' : Nat → Nat} {b : Nat} : ∀ k, (∀ j, j < k → t' (b + j) = t (b + j)) → tv_op t' b k = tv_op t b k := by
  intro k
  induction k with
  | zero => intro _; rfl
  | succ k ih =>
    intro h
    simp only [tv_op, h k (by omega), ih (fun j hj => h j (by omega))]
theorem tv_GS_feed {t n : Nat → Nat} {lg f tk : Nat} (hG : tv_GS t n lg) (hf : f < 2) (htk : tk ≤ 7) (hn : n f < 9) (hc : ¬ tv_CP t n f) : tv_GS (tv_upd t (f * 9 + n f) tk) (tv_upd n f (n f + 1)) lg := by
  obtain ⟨g1, g2, g3⟩ := hG
  refine ⟨g1, fun e he => ?_, fun c hc => ?_⟩
  · by_cases h : e = f
    · subst h
      have e1 : tv_upd n e (n e + 1) e = n e + 1 := by simp [tv_upd]
      rw [e1]
      refine ⟨by omega, fun k hk => ?_⟩
      rw [tv_op_ext (t := t) k (fun j hj => by simp only [tv_upd]; rw [if_neg (by omega)])]
      rcases Nat.lt_or_ge k (n e) with q | q
      · exact (g2 e he).2 k q
      · have e2 : k = n e := by omega
        rw [e2]
        exact Nat.pos_of_ne_zero hc
    · have e1 : tv_upd n f (n f + 1) e = n e := by simp [tv_upd, h]
      rw [e1]
      refine ⟨(g2 e he).1, fun k hk => ?_⟩
      have h9 := (g2 e he).1
      rw [tv_op_ext (t := t) k (fun j hj => by simp only [tv_upd]; rw [if_neg (by omega)])]
      exact (g2 e he).2 k hk
  · simp only [tv_upd]
    split
    · omega
    · exact g3 c hc
theorem tv_GS_back {t n : Nat → Nat} {lg f : Nat} (hG : tv_GS t n lg) (hf : f < 2) : tv_GS t (tv_upd n f (n f - 1)) lg := by
  obtain ⟨g1, g2, g3⟩ := hG
  refine ⟨g1, fun e he => ?_, g3⟩
  have h := g2 e he
  simp only [tv_upd]
  split
  next q =>
    subst q
    exact ⟨by omega, fun k hk => h.2 k (by omega)⟩
  next => exact h
theorem tv_pFeed_GS {t n t' n' : Nat → Nat} {lg : Nat} {g x z : Int32} (hG : tv_GS t n lg) (h : tv_pFeed t n g x z t' n') : tv_GS t' n' lg := by
  rcases h with ⟨f, tk, a1, a2, a3, a4, a5, a6, a7, rfl, rfl⟩ | ⟨-, -, rfl, rfl⟩
  · exact tv_GS_feed hG a1 a3 a5 a6
  · exact hG
theorem tv_pBack_GS {t n t' n' : Nat → Nat} {lg : Nat} {g z : Int32} (hG : tv_GS t n lg) (h : tv_pBack t n g z t' n') : tv_GS t' n' lg := by
  rcases h with ⟨f, a1, a2, a3, a4, rfl, rfl⟩ | ⟨-, -, rfl, rfl⟩
  · exact tv_GS_back hG a1
  · exact hG
def tv_kp (σ τ : tv_M) : Prop := τ 0 = σ 0 ∧ τ 1 = σ 1 ∧ τ 2 = σ 2
theorem tv_kp_rd {σ : tv_M} {f : Nat} (hf : f < 2) (hG : tv_GS (σ 1) (σ 2) (σ 0 0)) : tv_kp σ (tv_rd σ f (σ 2 f)) := ⟨tv_rd_GS hf hG 0 (by omega), tv_rd_GS hf hG 1 (by omega), tv_rd_GS hf hG 2 (by omega)⟩
theorem tv_bits2 : ∀ s, s < 8 → ∀ v, v < 3 → (s ||| 1 * 2 ^ v < 8 ∧ ∀ x, x < 3 → ((s ||| 1 * 2 ^ v).testBit x = true ↔ (s.testBit x = true ∨ x = v))) := by decide +kernel
theorem tv_but : ∀ v, v < 3 → (0 < 7 - 1 * 2 ^ v ∧ 7 - 1 * 2 ^ v < 7 ∧ ∀ x, x < 3 → ((7 - 1 * 2 ^ v).testBit x = true ↔ x ≠ v)) := by decide +kernel
theorem tv_3bit : ∀ x, x < 3 → (Nat.testBit 3 x = true ↔ x ≠ 2) := by decide +kernel
theorem tv_4bit : ∀ x, x < 3 → (Nat.testBit 4 x = true ↔ x = 2) := by decide +kernel
theorem tv_1bit : ∀ x, x < 3 → (Nat.testBit 1 x = true ↔ x = 0) := by decide +kernel
theorem tv_2bit : ∀ x, x < 3 → (Nat.testBit 2 x = true ↔ x = 1) := by decide +kernel
theorem tv_6bit : ∀ x, x < 3 → (Nat.testBit 6 x = true ↔ x ≠ 0) := by decide +kernel
theorem tv_5bit : ∀ x, x < 3 → (Nat.testBit 5 x = true ↔ x ≠ 1) := by decide +kernel
theorem tv_but32 : ∀ v, v < 3 → nI 7 &&& (nI (1 * 2 ^ v) ^^^ (-1)) = nI (7 - 1 * 2 ^ v) := by decide +kernel
theorem tv_decI (a : Nat) : nI a + Int32.ofInt (-1) = nI a - 1 := by
  rw [Int32.sub_eq_add_neg]
  rfl
end
section
set_option maxRecDepth 100000
/-! WALKS: the public methods of ThreeValued, against the specs -/
theorem tv_cX_complete_t (l : Launch) (D : va_G) (h : Nat → Nat) (d : Nat → ClassId) (σ : tv_M) (f : Nat) (hf : f < 2) (hGS : tv_GS (σ 1) (σ 2) (σ 0 0)) (hcp : tv_CP (σ 1) (σ 2) f) : tv_CI l yX1_complete cX1_complete 2 (some .boolean) ({ frames := 2, cells := 0, slots := 0, locals := 46 } : Room) D (tv_tX d) (tv_wX h d) [.ref (h 0), .int (nI f)] σ (fun z τ => z = nI 1 ∧ τ = tv_rd σ f (σ 2 f)) := by
  have := tv_cX_complete l D h d σ f hf (hGS.2.1 f hf).1 (hGS.2.1 f hf).2 hGS.2.2
  rw [if_pos (show tv_op (σ 1) (f * 9) (σ 2 f) = 0 from hcp)] at this
  exact this
theorem tv_cX_complete_n (l : Launch) (D : va_G) (h : Nat → Nat) (d : Nat → ClassId) (σ : tv_M) (f : Nat) (hf : f < 2) (hGS : tv_GS (σ 1) (σ 2) (σ 0 0)) (hcp : ¬ tv_CP (σ 1) (σ 2) f) : tv_CI l yX1_complete cX1_complete 2 (some .boolean) ({ frames := 2, cells := 0, slots := 0, locals := 46 } : Room) D (tv_tX d) (tv_wX h d) [.ref (h 0), .int (nI f)] σ (fun z τ => z = nI 0 ∧ τ = tv_rd σ f (σ 2 f)) := by
  have := tv_cX_complete l D h d σ f hf (hGS.2.1 f hf).1 (hGS.2.1 f hf).2 hGS.2.2
  rw [if_neg (show ¬ tv_op (σ 1) (f * 9) (σ 2 f) = 0 from hcp)] at this
  exact this
theorem tv_nocp {t n : Nat → Nat} {f : Nat} (hf : f < 2) (hcp : ¬ tv_CP t n f) {P : Nat → Prop} : ¬ ∃ q, q < 2 ∧ nI f = nI q ∧ tv_CP t n q ∧ P q := by
  rintro ⟨q, q1, q2, q3, -⟩
  have e : f = q := tv_inj (by omega) (by omega) q2
  subst e
  exact hcp q3
theorem tv_nof {t n : Nat → Nat} {g : Int32} (hb : ¬ (g = 0 ∨ g = 1)) {P : Nat → Prop} : ¬ ∃ q, q < 2 ∧ g = nI q ∧ tv_CP t n q ∧ P q := by
  rintro ⟨q, q1, q2, -⟩
  exact tv_bad_f hb q1 q2
theorem tv_onef {t n : Nat → Nat} {f : Nat} (hf : f < 2) (hcp : tv_CP t n f) {P : Nat → Prop} : (∃ q, q < 2 ∧ nI f = nI q ∧ tv_CP t n q ∧ P q) ↔ P f := by
  constructor
  · rintro ⟨q, q1, q2, q3, q4⟩
    have e : f = q := tv_inj (by omega) (by omega) q2
    subst e
    exact q4
  · exact fun h => ⟨f, hf, rfl, hcp, h⟩
theorem tv_Lst_no {P : Nat → Prop} (h : ∀ k, ¬ P k) : tv_Lst P (-1) := Or.inl ⟨rfl, fun k _ => h k⟩
theorem tv_Lst_ext {P Q : Nat → Prop} {z : Int32} (h : ∀ k, k ≤ 80 → (P k ↔ Q k)) (hP : tv_Lst P z) : tv_Lst Q z := by
  rcases hP with ⟨e1, n1⟩ | ⟨k, k1, k2, k3, k4⟩
  · exact Or.inl ⟨e1, fun k hk q => n1 k hk ((h k hk).mpr q)⟩
  · exact Or.inr ⟨k, k1, k2, (h k k1).mp k3, fun j hj q => k4 j hj ((h j (by omega)).mpr q)⟩
theorem tv_Bl_ext {P Q : Prop} {z : Int32} (h : P ↔ Q) (hP : tv_Bl P z) : tv_Bl Q z := by
  rcases hP with ⟨e1, p1⟩ | ⟨e1, p1⟩
  · exact Or.inl ⟨e1, h.mp p1⟩
  · exact Or.inr ⟨e1, fun q => p1 (h.mpr q)⟩
set_option maxHeartbeats 4000000 in
theorem tv_dX_complete (l : Launch) (D : va_G) (h : Nat → Nat) (d : Nat → ClassId) (σ : tv_M) (g : Int32) (hGS : tv_GS (σ 1) (σ 2) (σ 0 0)) : tv_CI l yX1_complete cX1_complete 2 (some .boolean) ({ frames := 2, cells := 0, slots := 0, locals := 46 } : Room) D (tv_tX d) (tv_wX h d) [.ref (h 0), .int g] σ (fun z τ => tv_pC (σ 1) (σ 2) g z ∧ tv_kp σ τ) := by
  refine tv_inZ (own := RX1) (by decide) rfl (by simp [Value.category]) (Nat.le_of_ble_eq_true rfl) ?_
  intro G hG hret
  rcases tv_fcase g with ⟨f, hf, rfl⟩ | hbad
  · have hrd := tv_rd_GS hf hGS
    have hE := tv_rd_end hf (hGS.2.1 f hf).1 (hGS.2.1 f hf).2
    have hn9 := (hGS.2.1 f hf).1
    refine tv_iload_n hG dX1_complete_0 rfl rfl ?_
    refine tv_callSxI (As := [.int (nI f)]) (st := []) hG (tv_cX_isFormula_t l D h d σ f (by omega)) q106 q107 q22 q108 1 (by decide +kernel) rfl rfl ⟨Nat.le_of_ble_eq_true rfl, Nat.le_of_ble_eq_true rfl⟩ rfl rfl (Nat.le_of_ble_eq_true rfl) dX1_complete_1 ?_
    refine tv_if_ne (tgt := 9) hG dX1_complete_4 (by decide) (by omega) (fun _ => ?_) (fun q => absurd q (by decide))
    refine tv_aload_n hG dX1_complete_9 rfl rfl ?_
    refine tv_iload_n hG dX1_complete_10 rfl rfl ?_
    refine tv_callxV (As := [.int (nI f)]) (st := []) hG (tv_cX_read l D h d σ f hf (hGS.2.1 f hf).1 (hGS.2.1 f hf).2 hGS.2.2) q113 q115 qs0 q22 q116 (ci := 0) rfl rfl 1 (by decide +kernel) rfl rfl ⟨Nat.le_of_ble_eq_true rfl, Nat.le_of_ble_eq_true rfl⟩ rfl rfl (Nat.le_of_ble_eq_true rfl) dX1_complete_11 ?_
    refine tv_aload_n hG dX1_complete_14 rfl rfl ?_
    refine tv_gX_2 hG dX1_complete_15 ?_
    refine tv_iload_n hG dX1_complete_18 rfl rfl ?_
    refine tv_lX_2 (v := σ 2 f) hG (congrFun (hrd 2 (by omega)) _) dX1_complete_19 (by omega) ?_
    refine tv_if_le (tgt := 34) hG dX1_complete_20 (by decide) (by omega) (fun c1 => ?_) (fun c1 => ?_)
    · refine tv_iconst (x := nI 0) hG dX1_complete_34 rfl ?_
      exact hret _ _ _ _ dX1_complete_35 (by decide) ⟨Or.inr ⟨rfl, fun q => by obtain ⟨q, q1, q2, q3⟩ := q; have e : f = q := tv_inj (by omega) (by omega) q2; subst e; have := hE.2.2.1.mpr q3; omega⟩, tv_kp_rd hf hGS⟩
    · refine tv_aload_n hG dX1_complete_23 rfl rfl ?_
      refine tv_gX_6 (v := (tv_rd σ f (σ 2 f)) 6 0) hG rfl dX1_complete_24 ?_
      refine tv_if_ne (tgt := 34) hG dX1_complete_27 (by decide) (by have := (tv_rd_inv hf (hGS.2.1 f hf).1 (hGS.2.1 f hf).2 (σ 2 f) (Nat.le_refl _)).1; omega) (fun c2 => ?_) (fun c2 => ?_)
      · refine tv_iconst (x := nI 0) hG dX1_complete_34 rfl ?_
        exact hret _ _ _ _ dX1_complete_35 (by decide) ⟨Or.inr ⟨rfl, fun q => by obtain ⟨q, q1, q2, q3⟩ := q; have e : f = q := tv_inj (by omega) (by omega) q2; subst e; have := hE.2.2.1.mpr q3; omega⟩, tv_kp_rd hf hGS⟩
      · refine tv_iconst (x := nI 1) hG dX1_complete_30 rfl ?_
        refine tv_goto (tgt := 35) hG dX1_complete_31 (by decide) ?_
        exact hret _ _ _ _ dX1_complete_35 (by decide) ⟨Or.inl ⟨rfl, f, hf, rfl, hE.2.2.1.mp ⟨by omega, by omega⟩⟩, tv_kp_rd hf hGS⟩
  · refine tv_iload_n hG dX1_complete_0 rfl rfl ?_
    refine tv_callSxI (As := [.int g]) (st := []) hG (tv_cX_isFormula_f l D h d σ g hbad) q106 q107 q22 q108 1 (by decide +kernel) rfl rfl ⟨Nat.le_of_ble_eq_true rfl, Nat.le_of_ble_eq_true rfl⟩ rfl rfl (Nat.le_of_ble_eq_true rfl) dX1_complete_1 ?_
    refine tv_if_ne (tgt := 9) hG dX1_complete_4 (by decide) (by omega) (fun q => absurd q (by decide)) (fun _ => ?_)
    refine tv_iconst (x := nI 0) hG dX1_complete_7 rfl ?_
    exact hret _ _ _ _ dX1_complete_8 (by decide) ⟨Or.inr ⟨rfl, fun q => by obtain ⟨q, q1, q2, q3⟩ := q; exact tv_bad_f hbad q1 q2⟩, rfl, rfl, rfl⟩
set_option maxHeartbeats 4000000 in
theorem tv_cX_feed (l : Launch) (D : va_G) (h : Nat → Nat) (d : Nat → ClassId) (σ : tv_M) (g x : Int32) (hGS : tv_GS (σ 1) (σ 2) (σ 0 0)) : tv_CI l yX1_feed cX1_feed 3 (some .int) ({ frames := 3, cells := 0, slots := 0, locals := 67 } : Room) D (tv_tX d) (tv_wX h d) [.ref (h 0), .int g, .int x] σ (fun z τ => tv_pFeed (σ 1) (σ 2) g x z (τ 1) (τ 2) ∧ τ 0 0 = σ 0 0) := by
  refine tv_inI (own := RX1) (by decide) rfl (by simp [Value.category]) (Nat.le_of_ble_eq_true rfl) ?_
  intro G hG hret
  rcases tv_fcase g with ⟨f, hf, rfl⟩ | hbad
  · have hrd := tv_rd_GS hf hGS
    have hn9 := (hGS.2.1 f hf).1
    rcases tv_rcase x 7 7 (by decide) with ⟨tk, htk, rfl⟩ | hbadx
    · by_cases hcp : tv_CP (σ 1) (σ 2) f
      · refine tv_iload_n hG dX1_feed_0 rfl rfl ?_
        refine tv_callSxI (As := [.int (nI f)]) (st := []) hG (tv_cX_isFormula_t l D h d σ f (by omega)) q106 q107 q22 q108 1 (by decide +kernel) rfl rfl ⟨Nat.le_of_ble_eq_true rfl, Nat.le_of_ble_eq_true rfl⟩ rfl rfl (Nat.le_of_ble_eq_true rfl) dX1_feed_1 ?_
        refine tv_if_eq (tgt := 36) hG dX1_feed_4 (by decide) (by omega) (fun q => absurd q (by decide)) (fun _ => ?_)
        refine tv_iload_n hG dX1_feed_7 rfl rfl ?_
        refine tv_if_lt (tgt := 36) hG dX1_feed_8 (by decide) (by omega) ?_
        refine tv_iload_n hG dX1_feed_11 rfl rfl ?_
        refine tv_bipush (x := nI 7) hG dX1_feed_12 rfl ?_
        refine tv_icmp_gt (tgt := 36) hG dX1_feed_14 (by decide) (by omega) (by omega) (fun c1 => ?_) (fun c1 => ?_)
        · refine tv_iconst (x := -1) hG dX1_feed_36 rfl ?_
          exact hret _ _ _ _ dX1_feed_37 ⟨Or.inr ⟨fun q => by obtain ⟨f1, t1, q1, q2, q3, q4, q5, q6⟩ := q; have e1 : f = f1 := tv_inj (by omega) (by omega) q2; subst e1; omega, rfl, rfl, rfl⟩, rfl⟩
        · refine tv_aload_n hG dX1_feed_17 rfl rfl ?_
          refine tv_gX_2 hG dX1_feed_18 ?_
          refine tv_iload_n hG dX1_feed_21 rfl rfl ?_
          refine tv_lX_2 (v := σ 2 f) hG rfl dX1_feed_22 (by omega) ?_
          refine tv_bipush (x := nI 9) hG dX1_feed_23 rfl ?_
          refine tv_icmp_ge (tgt := 36) hG dX1_feed_25 (by decide) (by omega) (by omega) (fun c2 => ?_) (fun c2 => ?_)
          · refine tv_iconst (x := -1) hG dX1_feed_36 rfl ?_
            exact hret _ _ _ _ dX1_feed_37 ⟨Or.inr ⟨fun q => by obtain ⟨f1, t1, q1, q2, q3, q4, q5, q6⟩ := q; have e1 : f = f1 := tv_inj (by omega) (by omega) q2; subst e1; omega, rfl, rfl, rfl⟩, rfl⟩
          · refine tv_aload_n hG dX1_feed_28 rfl rfl ?_
            refine tv_iload_n hG dX1_feed_29 rfl rfl ?_
            refine tv_callxI (As := [.int (nI f)]) (st := []) hG (tv_cX_complete_t l D h d σ f hf hGS hcp) q109 q110 q111 q22 q112 (ci := 0) rfl rfl 1 (by decide +kernel) rfl rfl ⟨Nat.le_of_ble_eq_true rfl, Nat.le_of_ble_eq_true rfl⟩ rfl rfl (Nat.le_of_ble_eq_true rfl) dX1_feed_30 ?_
            refine tv_if_eq (tgt := 38) hG dX1_feed_33 (by decide) (by omega) (fun q => absurd q (by decide)) (fun _ => ?_)
            refine tv_iconst (x := -1) hG dX1_feed_36 rfl ?_
            exact hret _ _ _ _ dX1_feed_37 ⟨Or.inr ⟨fun q => by obtain ⟨f1, t1, q1, q2, q3, q4, q5, q6⟩ := q; have e1 : f = f1 := tv_inj (by omega) (by omega) q2; subst e1; exact q6 hcp, rfl, hrd 1 (by omega), hrd 2 (by omega)⟩, congrFun (hrd 0 (by omega)) 0⟩
      · refine tv_iload_n hG dX1_feed_0 rfl rfl ?_
        refine tv_callSxI (As := [.int (nI f)]) (st := []) hG (tv_cX_isFormula_t l D h d σ f (by omega)) q106 q107 q22 q108 1 (by decide +kernel) rfl rfl ⟨Nat.le_of_ble_eq_true rfl, Nat.le_of_ble_eq_true rfl⟩ rfl rfl (Nat.le_of_ble_eq_true rfl) dX1_feed_1 ?_
        refine tv_if_eq (tgt := 36) hG dX1_feed_4 (by decide) (by omega) (fun q => absurd q (by decide)) (fun _ => ?_)
        refine tv_iload_n hG dX1_feed_7 rfl rfl ?_
        refine tv_if_lt (tgt := 36) hG dX1_feed_8 (by decide) (by omega) ?_
        refine tv_iload_n hG dX1_feed_11 rfl rfl ?_
        refine tv_bipush (x := nI 7) hG dX1_feed_12 rfl ?_
        refine tv_icmp_gt (tgt := 36) hG dX1_feed_14 (by decide) (by omega) (by omega) (fun c3 => ?_) (fun c3 => ?_)
        · refine tv_iconst (x := -1) hG dX1_feed_36 rfl ?_
          exact hret _ _ _ _ dX1_feed_37 ⟨Or.inr ⟨fun q => by obtain ⟨f1, t1, q1, q2, q3, q4, q5, q6⟩ := q; have e1 : f = f1 := tv_inj (by omega) (by omega) q2; subst e1; omega, rfl, rfl, rfl⟩, rfl⟩
        · refine tv_aload_n hG dX1_feed_17 rfl rfl ?_
          refine tv_gX_2 hG dX1_feed_18 ?_
          refine tv_iload_n hG dX1_feed_21 rfl rfl ?_
          refine tv_lX_2 (v := σ 2 f) hG rfl dX1_feed_22 (by omega) ?_
          refine tv_bipush (x := nI 9) hG dX1_feed_23 rfl ?_
          refine tv_icmp_ge (tgt := 36) hG dX1_feed_25 (by decide) (by omega) (by omega) (fun c4 => ?_) (fun c4 => ?_)
          · refine tv_iconst (x := -1) hG dX1_feed_36 rfl ?_
            exact hret _ _ _ _ dX1_feed_37 ⟨Or.inr ⟨fun q => by obtain ⟨f1, t1, q1, q2, q3, q4, q5, q6⟩ := q; have e1 : f = f1 := tv_inj (by omega) (by omega) q2; subst e1; omega, rfl, rfl, rfl⟩, rfl⟩
          · refine tv_aload_n hG dX1_feed_28 rfl rfl ?_
            refine tv_iload_n hG dX1_feed_29 rfl rfl ?_
            refine tv_callxI (As := [.int (nI f)]) (st := []) hG (tv_cX_complete_n l D h d σ f hf hGS hcp) q109 q110 q111 q22 q112 (ci := 0) rfl rfl 1 (by decide +kernel) rfl rfl ⟨Nat.le_of_ble_eq_true rfl, Nat.le_of_ble_eq_true rfl⟩ rfl rfl (Nat.le_of_ble_eq_true rfl) dX1_feed_30 ?_
            refine tv_if_eq (tgt := 38) hG dX1_feed_33 (by decide) (by omega) (fun _ => ?_) (fun q => absurd q (by decide))
            refine tv_aload_n hG dX1_feed_38 rfl rfl ?_
            refine tv_gX_1 hG dX1_feed_39 ?_
            refine tv_iload_n hG dX1_feed_42 rfl rfl ?_
            refine tv_bipush (x := nI 9) hG dX1_feed_43 rfl ?_
            refine tv_imul hG dX1_feed_45 ?_
            refine tv_aload_n hG dX1_feed_46 rfl rfl ?_
            refine tv_gX_2 hG dX1_feed_47 ?_
            refine tv_iload_n hG dX1_feed_50 rfl rfl ?_
            refine tv_lX_2 (v := σ 2 f) hG (congrFun (hrd 2 (by omega)) _) dX1_feed_51 (by omega) ?_
            refine tv_iadd hG dX1_feed_52 ?_
            refine tv_iload_n hG dX1_feed_53 rfl rfl ?_
            refine tv_i2b hG dX1_feed_54 (by omega) ?_
            refine tv_sX_1 hG dX1_feed_55 (by omega) (by omega) ?_
            refine tv_aload_n hG dX1_feed_56 rfl rfl ?_
            refine tv_gX_2 hG dX1_feed_57 ?_
            refine tv_iload_n hG dX1_feed_60 rfl rfl ?_
            refine tv_dup2 hG dX1_feed_61 rfl rfl ?_
            refine tv_lX_2 (v := σ 2 f) hG (congrFun (hrd 2 (by omega)) _) dX1_feed_62 (by omega) ?_
            refine tv_iconst (x := nI 1) hG dX1_feed_63 rfl ?_
            refine tv_iadd hG dX1_feed_64 ?_
            refine tv_i2b hG dX1_feed_65 (by omega) ?_
            refine tv_sX_2 hG dX1_feed_66 (by omega) (by omega) ?_
            refine tv_aload_n hG dX1_feed_67 rfl rfl ?_
            refine tv_gX_2 hG dX1_feed_68 ?_
            refine tv_iload_n hG dX1_feed_71 rfl rfl ?_
            refine tv_lX_2 (v := (σ 2 f) + 1) hG (by simp [tv_st]) dX1_feed_72 (by omega) ?_
            refine hret _ _ _ _ dX1_feed_73 ⟨Or.inl ⟨f, tk, hf, rfl, htk, rfl, by omega, hcp, rfl, ?_, ?_⟩, ?_⟩
            · rw [tv_st_k (by decide)]; funext j; simp only [tv_st, tv_upd, hrd 1 (by omega)]; simp
            · funext j; simp only [tv_st, tv_upd]; simp [hrd 2 (by omega)]
            · rw [tv_st_k (by decide), tv_st_k (by decide), hrd 0 (by omega)]
    · rcases hbadx with hx0 | hx7
      · refine tv_iload_n hG dX1_feed_0 rfl rfl ?_
        refine tv_callSxI (As := [.int (nI f)]) (st := []) hG (tv_cX_isFormula_t l D h d σ f (by omega)) q106 q107 q22 q108 1 (by decide +kernel) rfl rfl ⟨Nat.le_of_ble_eq_true rfl, Nat.le_of_ble_eq_true rfl⟩ rfl rfl (Nat.le_of_ble_eq_true rfl) dX1_feed_1 ?_
        refine tv_if_eq (tgt := 36) hG dX1_feed_4 (by decide) (by omega) (fun q => absurd q (by decide)) (fun _ => ?_)
        refine tv_iload_n hG dX1_feed_7 rfl rfl ?_
        refine tv_zif_lt (tgt := 36) hG dX1_feed_8 (by decide) (fun _ => ?_) (fun q => absurd hx0 q)
        refine tv_iconst (x := -1) hG dX1_feed_36 rfl ?_
        exact hret _ _ _ _ dX1_feed_37 ⟨Or.inr ⟨fun q => by obtain ⟨f1, t1, q1, q2, q3, q4, q5, q6⟩ := q; exact tv_bad_r (M := 7) (m := 7) (by decide) (by decide) (Or.inl hx0) q3 q4, rfl, rfl, rfl⟩, rfl⟩
      · refine tv_iload_n hG dX1_feed_0 rfl rfl ?_
        refine tv_callSxI (As := [.int (nI f)]) (st := []) hG (tv_cX_isFormula_t l D h d σ f (by omega)) q106 q107 q22 q108 1 (by decide +kernel) rfl rfl ⟨Nat.le_of_ble_eq_true rfl, Nat.le_of_ble_eq_true rfl⟩ rfl rfl (Nat.le_of_ble_eq_true rfl) dX1_feed_1 ?_
        refine tv_if_eq (tgt := 36) hG dX1_feed_4 (by decide) (by omega) (fun q => absurd q (by decide)) (fun _ => ?_)
        refine tv_iload_n hG dX1_feed_7 rfl rfl ?_
        refine tv_zif_lt (tgt := 36) hG dX1_feed_8 (by decide) (fun q => absurd (Int32.lt_trans hx7 q) (by decide)) (fun _ => ?_)
        refine tv_iload_n hG dX1_feed_11 rfl rfl ?_
        refine tv_bipush (x := nI 7) hG dX1_feed_12 rfl ?_
        refine tv_zicmp_gt (tgt := 36) hG dX1_feed_14 (by decide) (fun _ => ?_) (fun q => absurd (by rw [tv_n7]; exact hx7) q)
        refine tv_iconst (x := -1) hG dX1_feed_36 rfl ?_
        exact hret _ _ _ _ dX1_feed_37 ⟨Or.inr ⟨fun q => by obtain ⟨f1, t1, q1, q2, q3, q4, q5, q6⟩ := q; exact tv_bad_r (M := 7) (m := 7) (by decide) (by decide) (Or.inr hx7) q3 q4, rfl, rfl, rfl⟩, rfl⟩
  · refine tv_iload_n hG dX1_feed_0 rfl rfl ?_
    refine tv_callSxI (As := [.int g]) (st := []) hG (tv_cX_isFormula_f l D h d σ g hbad) q106 q107 q22 q108 1 (by decide +kernel) rfl rfl ⟨Nat.le_of_ble_eq_true rfl, Nat.le_of_ble_eq_true rfl⟩ rfl rfl (Nat.le_of_ble_eq_true rfl) dX1_feed_1 ?_
    refine tv_if_eq (tgt := 36) hG dX1_feed_4 (by decide) (by omega) (fun _ => ?_) (fun q => absurd q (by decide))
    refine tv_iconst (x := -1) hG dX1_feed_36 rfl ?_
    exact hret _ _ _ _ dX1_feed_37 ⟨Or.inr ⟨fun q => by obtain ⟨f1, t1, q1, q2, q3, q4, q5, q6⟩ := q; exact tv_bad_f hbad q1 q2, rfl, rfl, rfl⟩, rfl⟩
set_option maxHeartbeats 4000000 in
theorem tv_cX_back (l : Launch) (D : va_G) (h : Nat → Nat) (d : Nat → ClassId) (σ : tv_M) (g : Int32) (hGS : tv_GS (σ 1) (σ 2) (σ 0 0)) : tv_CI l yX1_back cX1_back 2 (some .int) ({ frames := 1, cells := 0, slots := 0, locals := 20 } : Room) D (tv_tX d) (tv_wX h d) [.ref (h 0), .int g] σ (fun z τ => tv_pBack (σ 1) (σ 2) g z (τ 1) (τ 2) ∧ τ 0 0 = σ 0 0) := by
  refine tv_inI (own := RX1) (by decide) rfl (by simp [Value.category]) (Nat.le_of_ble_eq_true rfl) ?_
  intro G hG hret
  rcases tv_fcase g with ⟨f, hf, rfl⟩ | hbad
  · have hn9 := (hGS.2.1 f hf).1
    refine tv_iload_n hG dX1_back_0 rfl rfl ?_
    refine tv_callSxI (As := [.int (nI f)]) (st := []) hG (tv_cX_isFormula_t l D h d σ f (by omega)) q106 q107 q22 q108 1 (by decide +kernel) rfl rfl ⟨Nat.le_of_ble_eq_true rfl, Nat.le_of_ble_eq_true rfl⟩ rfl rfl (Nat.le_of_ble_eq_true rfl) dX1_back_1 ?_
    refine tv_if_eq (tgt := 16) hG dX1_back_4 (by decide) (by omega) (fun q => absurd q (by decide)) (fun _ => ?_)
    refine tv_aload_n hG dX1_back_7 rfl rfl ?_
    refine tv_gX_2 hG dX1_back_8 ?_
    refine tv_iload_n hG dX1_back_11 rfl rfl ?_
    refine tv_lX_2 (v := σ 2 f) hG rfl dX1_back_12 (by omega) ?_
    refine tv_if_ne (tgt := 18) hG dX1_back_13 (by decide) (by omega) (fun c1 => ?_) (fun c1 => ?_)
    · refine tv_aload_n hG dX1_back_18 rfl rfl ?_
      refine tv_gX_2 hG dX1_back_19 ?_
      refine tv_iload_n hG dX1_back_22 rfl rfl ?_
      refine tv_dup2 hG dX1_back_23 rfl rfl ?_
      refine tv_lX_2 (v := σ 2 f) hG rfl dX1_back_24 (by omega) ?_
      refine tv_iconst (x := nI 1) hG dX1_back_25 rfl ?_
      refine tv_isub hG dX1_back_26 (by omega) ?_
      refine tv_i2b hG dX1_back_27 (by omega) ?_
      refine tv_sX_2 hG dX1_back_28 (by omega) (by omega) ?_
      refine tv_aload_n hG dX1_back_29 rfl rfl ?_
      refine tv_gX_1 hG dX1_back_30 ?_
      refine tv_iload_n hG dX1_back_33 rfl rfl ?_
      refine tv_bipush (x := nI 9) hG dX1_back_34 rfl ?_
      refine tv_imul hG dX1_back_36 ?_
      refine tv_aload_n hG dX1_back_37 rfl rfl ?_
      refine tv_gX_2 hG dX1_back_38 ?_
      refine tv_iload_n hG dX1_back_41 rfl rfl ?_
      refine tv_lX_2 (v := (σ 2 f) - 1) hG (by simp [tv_st]) dX1_back_42 (by omega) ?_
      refine tv_iadd hG dX1_back_43 ?_
      refine tv_lX_1 (v := σ 1 ((f * 9) + ((σ 2 f) - 1))) hG (by simp [tv_st]) dX1_back_44 (by omega) ?_
      refine hret _ _ _ _ dX1_back_45 ⟨Or.inl ⟨f, hf, rfl, by omega, rfl, ?_, ?_⟩, rfl⟩
      · exact tv_st_k (by decide)
      · funext j; simp [tv_st, tv_upd]
    · refine tv_iconst (x := -1) hG dX1_back_16 rfl ?_
      exact hret _ _ _ _ dX1_back_17 ⟨Or.inr ⟨fun q => by obtain ⟨f1, q1, q2, q3⟩ := q; have e1 : f = f1 := tv_inj (by omega) (by omega) q2; subst e1; omega, rfl, rfl, rfl⟩, rfl⟩
  · refine tv_iload_n hG dX1_back_0 rfl rfl ?_
    refine tv_callSxI (As := [.int g]) (st := []) hG (tv_cX_isFormula_f l D h d σ g hbad) q106 q107 q22 q108 1 (by decide +kernel) rfl rfl ⟨Nat.le_of_ble_eq_true rfl, Nat.le_of_ble_eq_true rfl⟩ rfl rfl (Nat.le_of_ble_eq_true rfl) dX1_back_1 ?_
    refine tv_if_eq (tgt := 16) hG dX1_back_4 (by decide) (by omega) (fun _ => ?_) (fun q => absurd q (by decide))
    refine tv_iconst (x := -1) hG dX1_back_16 rfl ?_
    exact hret _ _ _ _ dX1_back_17 ⟨Or.inr ⟨fun q => by obtain ⟨f1, q1, q2, q3⟩ := q; exact tv_bad_f hbad q1 q2, rfl, rfl, rfl⟩, rfl⟩
set_option maxHeartbeats 4000000 in
theorem tv_cX_value (l : Launch) (D : va_G) (h : Nat → Nat) (d : Nat → ClassId) (σ : tv_M) (g x : Int32) (hGS : tv_GS (σ 1) (σ 2) (σ 0 0)) : tv_CI l yX1_value cX1_value 6 (some .int) ({ frames := 3, cells := 0, slots := 0, locals := 67 } : Room) D (tv_tX d) (tv_wX h d) [.ref (h 0), .int g, .int x] σ (fun z τ => tv_pVal (σ 1) (σ 2) (σ 0 0) g x z ∧ tv_kp σ τ) := by
  refine tv_inI (own := RX1) (by decide) rfl (by simp [Value.category]) (Nat.le_of_ble_eq_true rfl) ?_
  intro G hG hret
  rcases tv_rcase x 80 80 (by decide) with ⟨k, hk, rfl⟩ | hx0 | hx7
  · rcases tv_fcase g with ⟨f, hf, rfl⟩ | hbadf
    · have hrd := tv_rd_GS hf hGS
      by_cases hcp : tv_CP (σ 1) (σ 2) f
      · have hn9 := (hGS.2.1 f hf).1
        have hroot := tv_root (A := fun q => q = f) hGS hf rfl hcp
        have hpos : 0 < σ 2 f := by obtain ⟨f1, q1, q2, q3, q4⟩ := hroot.1; subst q2; omega
        have hFr := tv_F_one (τ := tv_rd σ f (σ 2 f)) hf hGS hcp (hrd 0 (by omega)) (hrd 1 (by omega)) rfl
        refine tv_iload_n hG dX1_value_0 rfl rfl ?_
        refine tv_if_lt (tgt := 18) hG dX1_value_1 (by decide) (by omega) ?_
        refine tv_iload_n hG dX1_value_4 rfl rfl ?_
        refine tv_bipush (x := nI 80) hG dX1_value_5 rfl ?_
        refine tv_icmp_gt (tgt := 18) hG dX1_value_7 (by decide) (by omega) (by omega) (fun q => by exfalso; omega) (fun _ => ?_)
        refine tv_aload_n hG dX1_value_10 rfl rfl ?_
        refine tv_iload_n hG dX1_value_11 rfl rfl ?_
        refine tv_callxI (As := [.int (nI f)]) (st := []) hG (tv_cX_complete_t l D h d σ f hf hGS hcp) q109 q110 q111 q22 q112 (ci := 0) rfl rfl 1 (by decide +kernel) rfl rfl ⟨Nat.le_of_ble_eq_true rfl, Nat.le_of_ble_eq_true rfl⟩ rfl rfl (Nat.le_of_ble_eq_true rfl) dX1_value_12 ?_
        refine tv_if_ne (tgt := 20) hG dX1_value_15 (by decide) (by omega) (fun _ => ?_) (fun q => absurd q (by decide))
        refine tv_aload_n hG dX1_value_20 rfl rfl ?_
        refine tv_gX_2 hG dX1_value_21 ?_
        refine tv_iload_n hG dX1_value_24 rfl rfl ?_
        refine tv_lX_2 (v := σ 2 f) hG (congrFun (hrd 2 (by omega)) _) dX1_value_25 (by omega) ?_
        refine tv_iconst (x := nI 1) hG dX1_value_26 rfl ?_
        refine tv_isub hG dX1_value_27 (by omega) ?_
        refine tv_istore_n (vs1 := [.ref (h 0), .int (nI f), .int (nI k), .int (nI ((σ 2 f) - 1))]) hG dX1_value_28 rfl (by decide) (Nat.le_of_ble_eq_true rfl) rfl ?_
        have loop : ∀ (j : Nat) (ρ : tv_M) (i : Int32), i = nI j - 1 → j ≤ σ 2 f → (∀ q, q < 7 → ρ q = tv_rd σ f (σ 2 f) q) → (∀ c, f * 9 + j ≤ c → c < f * 9 + σ 2 f → ρ 19 c = tv_VV (σ 1) (σ 2) (σ 0 0) (tv_dg k) c) → G 29 [.ref (h 0), .int (nI f), .int (nI k), .int i] [] ρ := by
          intro j
          induction j with
          | zero =>
            intro ρ i hi hj hfr hw
            obtain rfl : i = -1 := by rw [hi]; decide
            refine tv_iload_n hG dX1_value_29 rfl rfl ?_
            refine tv_zif_lt (tgt := 145) hG dX1_value_30 (by decide) (fun _ => ?_) (fun q => absurd q (by decide))
            refine tv_aload_n hG dX1_value_145 rfl rfl ?_
            refine tv_gX_19 hG dX1_value_146 ?_
            refine tv_iload_n hG dX1_value_149 rfl rfl ?_
            refine tv_bipush (x := nI 9) hG dX1_value_150 rfl ?_
            refine tv_imul hG dX1_value_152 ?_
            refine tv_lX_19 (v := tv_EV (σ 1) (σ 2) (σ 0 0) f k) hG (by rw [hw _ (by omega) (by omega), tv_VV_EV]) dX1_value_153 (by omega) ?_
            exact hret _ _ _ _ dX1_value_154 ⟨Or.inl ⟨f, k, hf, rfl, hk, rfl, hcp, rfl⟩, by rw [hfr 0 (by omega), hrd 0 (by omega)], by rw [hfr 1 (by omega), hrd 1 (by omega)], by rw [hfr 2 (by omega), hrd 2 (by omega)]⟩
          | succ j ih =>
            intro ρ i hi hj hfr hw
            obtain rfl : i = nI j := by rw [hi]; exact nI_pred j
            have e1 : ρ 1 = σ 1 := by rw [hfr 1 (by omega), hrd 1 (by omega)]
            have e0 : ρ 0 = σ 0 := by rw [hfr 0 (by omega), hrd 0 (by omega)]
            have hFρ := tv_F_ext hFr (hfr 0 (by omega)) (hfr 1 (by omega)) (hfr 3 (by omega))
            have hok : tv_okk (σ 2) (fun q => q = f) (f * 9 + j) := ⟨f, hf, rfl, by omega, by omega⟩
            obtain ⟨k1, k2, k3, k4, k5, k6, k7⟩ := hFρ.2 _ hok
            rw [e1] at k2 k5 k6 k7
            rw [e0] at k5 k6
            have hV3 := k4 (tv_dg k) (fun l _ => tv_dg_lt k l)
            refine tv_iload_n hG dX1_value_29 rfl rfl ?_
            refine tv_if_lt (tgt := 145) hG dX1_value_30 (by decide) (by omega) ?_
            refine tv_iload_n hG dX1_value_33 rfl rfl ?_
            refine tv_bipush (x := nI 9) hG dX1_value_34 rfl ?_
            refine tv_imul hG dX1_value_36 ?_
            refine tv_iload_n hG dX1_value_37 rfl rfl ?_
            refine tv_iadd hG dX1_value_38 ?_
            refine tv_istore (vs1 := [.ref (h 0), .int (nI f), .int (nI k), .int (nI j), .int (nI ((f * 9) + j))]) hG dX1_value_39 (by decide) (Nat.le_of_ble_eq_true rfl) rfl ?_
            refine tv_aload_n hG dX1_value_41 rfl rfl ?_
            refine tv_gX_1 hG dX1_value_42 ?_
            refine tv_iload hG dX1_value_45 rfl ?_
            refine tv_lX_1 (v := σ 1 (f * 9 + j)) hG (congrFun e1 _) dX1_value_47 (by omega) ?_
            refine tv_istore (vs1 := [.ref (h 0), .int (nI f), .int (nI k), .int (nI j), .int (nI ((f * 9) + j)), .int (nI (σ 1 (f * 9 + j)))]) hG dX1_value_48 (by decide) (Nat.le_of_ble_eq_true rfl) rfl ?_
            refine tv_iload hG dX1_value_50 rfl ?_
            refine tv_iconst (x := nI 4) hG dX1_value_52 rfl ?_
            refine tv_icmp_lt (tgt := 75) hG dX1_value_53 (by decide) (by omega) (by omega) (fun c1 => ?_) (fun c1 => ?_)
            · refine tv_iload hG dX1_value_75 rfl ?_
              refine tv_if_ne (tgt := 104) hG dX1_value_77 (by decide) (by omega) (fun c2 => ?_) (fun c2 => ?_)
              · obtain ⟨b1, b2, b3, b4⟩ := k6 (by omega) (by omega)
                have hs2 := (tv_ps_suf _ (by omega) 1 _ ((tv_rd_end hf (hGS.2.1 f hf).1 (hGS.2.1 f hf).2).2.2.2.1 hcp (f * 9 + j) (by omega) (by omega) (by omega) (by omega))).2.1
                rw [← hfr 3 (by omega)] at hs2
                have hval := b4 (tv_dg k)
                have v1 := (hFρ.2 _ b1).2.2.2.1 (tv_dg k) (fun l _ => tv_dg_lt k l)
                have v2 := (hFρ.2 _ b2).2.2.2.1 (tv_dg k) (fun l _ => tv_dg_lt k l)
                have s18 := (hFρ.2 _ b2).1
                obtain ⟨g1, g2, g3, g4, g5⟩ := b1
                obtain ⟨g6, g7, g8, g9, g10⟩ := b2
                have g3 : g1 = f := g3
                have g8 : g6 = f := g8
                rw [g3] at g4 g5
                rw [g8] at g9 g10
                refine tv_aload_n hG dX1_value_104 rfl rfl ?_
                refine tv_gX_19 hG dX1_value_105 ?_
                refine tv_iload hG dX1_value_108 rfl ?_
                refine tv_aload_n hG dX1_value_110 rfl rfl ?_
                refine tv_iload hG dX1_value_111 rfl ?_
                refine tv_aload_n hG dX1_value_113 rfl rfl ?_
                refine tv_gX_19 hG dX1_value_114 ?_
                refine tv_iload hG dX1_value_117 rfl ?_
                refine tv_iconst (x := nI 1) hG dX1_value_119 rfl ?_
                refine tv_iadd hG dX1_value_120 ?_
                refine tv_lX_19 (v := tv_VV (σ 1) (σ 2) (σ 0 0) (tv_dg k) (((f * 9) + j) + 1)) hG (hw _ (by omega) (by omega)) dX1_value_121 (by omega) ?_
                refine tv_aload_n hG dX1_value_122 rfl rfl ?_
                refine tv_gX_19 hG dX1_value_123 ?_
                refine tv_aload_n hG dX1_value_126 rfl rfl ?_
                refine tv_gX_3 hG dX1_value_127 ?_
                refine tv_iload hG dX1_value_130 rfl ?_
                refine tv_lX_3 (v := ρ 3 ((f * 9) + j)) hG rfl dX1_value_132 (by omega) ?_
                refine tv_lX_19 (v := tv_VV (σ 1) (σ 2) (σ 0 0) (tv_dg k) (ρ 3 ((f * 9) + j))) hG (hw _ (by omega) (by omega)) dX1_value_133 (by omega) ?_
                refine tv_callxI (As := [.int (nI (σ 1 (f * 9 + j))), .int (nI (tv_VV (σ 1) (σ 2) (σ 0 0) (tv_dg k) (((f * 9) + j) + 1))), .int (nI (tv_VV (σ 1) (σ 2) (σ 0 0) (tv_dg k) (ρ 3 ((f * 9) + j))))]) (st := [.int (nI ((f * 9) + j)), .ref (h 19)]) hG (tv_cX_apply l D h d ρ (σ 1 (f * 9 + j)) (tv_VV (σ 1) (σ 2) (σ 0 0) (tv_dg k) (((f * 9) + j) + 1)) (tv_VV (σ 1) (σ 2) (σ 0 0) (tv_dg k) (ρ 3 ((f * 9) + j))) (by omega) (by omega) (by omega) hFρ.1) q140 q142 qs3 q22 q143 (ci := 0) rfl rfl 3 (by decide +kernel) rfl rfl ⟨Nat.le_of_ble_eq_true rfl, Nat.le_of_ble_eq_true rfl⟩ rfl rfl (Nat.le_of_ble_eq_true rfl) dX1_value_134 ?_
                rw [e0]
                have hy := tv_app_le (lg := σ 0 0) (t := σ 1 (f * 9 + j)) (x := tv_VV (σ 1) (σ 2) (σ 0 0) (tv_dg k) (((f * 9) + j) + 1)) (y := tv_VV (σ 1) (σ 2) (σ 0 0) (tv_dg k) (ρ 3 ((f * 9) + j))) (by omega) (by omega)
                refine tv_i2b hG dX1_value_137 (by omega) ?_
                refine tv_sX_19 hG dX1_value_138 (by omega) (by omega) ?_
                refine tv_iinc (y := nI j - 1) (vs1 := [.ref (h 0), .int (nI f), .int (nI k), .int (nI j - 1), .int (nI ((f * 9) + j)), .int (nI (σ 1 (f * 9 + j)))]) hG dX1_value_139 rfl (tv_decI j) (by decide) rfl ?_
                refine tv_goto (tgt := 29) hG dX1_value_142 (by decide) ?_
                refine tv_drop (vs1 := [.ref (h 0), .int (nI f), .int (nI k), .int (nI j - 1)]) hG ⟨_, rfl⟩ ?_
                refine ih _ (nI j - 1) rfl (by omega) (fun q hq => by rw [tv_st_k (by omega)]; exact hfr q hq) (fun c h1 h2 => ?_)
                by_cases hc : c = f * 9 + j
                · rw [hc, tv_st_eq, hval]
                · rw [tv_st_j hc]; exact hw c (by omega) h2
              · obtain ⟨b1, b2, b3⟩ := k5 c2
                have hval := b3 (tv_dg k)
                have v1 := (hFρ.2 _ b1).2.2.2.1 (tv_dg k) (fun l _ => tv_dg_lt k l)
                obtain ⟨g1, g2, g3, g4, g5⟩ := b1
                have g3 : g1 = f := g3
                rw [g3] at g4 g5
                refine tv_aload_n hG dX1_value_80 rfl rfl ?_
                refine tv_gX_19 hG dX1_value_81 ?_
                refine tv_iload hG dX1_value_84 rfl ?_
                refine tv_aload_n hG dX1_value_86 rfl rfl ?_
                refine tv_aload_n hG dX1_value_87 rfl rfl ?_
                refine tv_gX_19 hG dX1_value_88 ?_
                refine tv_iload hG dX1_value_91 rfl ?_
                refine tv_iconst (x := nI 1) hG dX1_value_93 rfl ?_
                refine tv_iadd hG dX1_value_94 ?_
                refine tv_lX_19 (v := tv_VV (σ 1) (σ 2) (σ 0 0) (tv_dg k) (((f * 9) + j) + 1)) hG (hw _ (by omega) (by omega)) dX1_value_95 (by omega) ?_
                refine tv_callxI (As := [.int (nI (tv_VV (σ 1) (σ 2) (σ 0 0) (tv_dg k) (((f * 9) + j) + 1)))]) (st := [.int (nI ((f * 9) + j)), .ref (h 19)]) hG (tv_cX_not l D h d ρ (tv_VV (σ 1) (σ 2) (σ 0 0) (tv_dg k) (((f * 9) + j) + 1)) (by omega) hFρ.1) q136 q138 qs2 q22 q139 (ci := 0) rfl rfl 1 (by decide +kernel) rfl rfl ⟨Nat.le_of_ble_eq_true rfl, Nat.le_of_ble_eq_true rfl⟩ rfl rfl (Nat.le_of_ble_eq_true rfl) dX1_value_96 ?_
                rw [e0]
                have hy := tv_not_le (σ 0 0) (tv_VV (σ 1) (σ 2) (σ 0 0) (tv_dg k) (((f * 9) + j) + 1))
                refine tv_i2b hG dX1_value_99 (by omega) ?_
                refine tv_sX_19 hG dX1_value_100 (by omega) (by omega) ?_
                refine tv_goto (tgt := 139) hG dX1_value_101 (by decide) ?_
                refine tv_iinc (y := nI j - 1) (vs1 := [.ref (h 0), .int (nI f), .int (nI k), .int (nI j - 1), .int (nI ((f * 9) + j)), .int (nI (σ 1 (f * 9 + j)))]) hG dX1_value_139 rfl (tv_decI j) (by decide) rfl ?_
                refine tv_goto (tgt := 29) hG dX1_value_142 (by decide) ?_
                refine tv_drop (vs1 := [.ref (h 0), .int (nI f), .int (nI k), .int (nI j - 1)]) hG ⟨_, rfl⟩ ?_
                refine ih _ (nI j - 1) rfl (by omega) (fun q hq => by rw [tv_st_k (by omega)]; exact hfr q hq) (fun c h1 h2 => ?_)
                by_cases hc : c = f * 9 + j
                · rw [hc, tv_st_eq, hval]
                · rw [tv_st_j hc]; exact hw c (by omega) h2
            · have hval := k7 c1 (tv_dg k)
              refine tv_aload_n hG dX1_value_56 rfl rfl ?_
              refine tv_gX_19 hG dX1_value_57 ?_
              refine tv_iload hG dX1_value_60 rfl ?_
              refine tv_iload hG dX1_value_62 rfl ?_
              refine tv_iconst (x := nI 4) hG dX1_value_64 rfl ?_
              refine tv_isub hG dX1_value_65 (by omega) ?_
              refine tv_iload_n hG dX1_value_66 rfl rfl ?_
              refine tv_callSxI (As := [.int (nI ((σ 1 (f * 9 + j)) - 4)), .int (nI k)]) (st := [.int (nI ((f * 9) + j)), .ref (h 19)]) hG (tv_cX_valueOf l D h d ρ ((σ 1 (f * 9 + j)) - 4) k (by omega) hk) q133 q134 q22 q135 2 (by decide +kernel) rfl rfl ⟨Nat.le_of_ble_eq_true rfl, Nat.le_of_ble_eq_true rfl⟩ rfl rfl (Nat.le_of_ble_eq_true rfl) dX1_value_67 ?_
              have hlt3 : k / 3 ^ ((σ 1 (f * 9 + j)) - 4) % 3 < 3 := Nat.mod_lt _ (by decide)
              refine tv_i2b hG dX1_value_70 (by omega) ?_
              refine tv_sX_19 hG dX1_value_71 (by omega) (by omega) ?_
              refine tv_goto (tgt := 139) hG dX1_value_72 (by decide) ?_
              refine tv_iinc (y := nI j - 1) (vs1 := [.ref (h 0), .int (nI f), .int (nI k), .int (nI j - 1), .int (nI ((f * 9) + j)), .int (nI (σ 1 (f * 9 + j)))]) hG dX1_value_139 rfl (tv_decI j) (by decide) rfl ?_
              refine tv_goto (tgt := 29) hG dX1_value_142 (by decide) ?_
              refine tv_drop (vs1 := [.ref (h 0), .int (nI f), .int (nI k), .int (nI j - 1)]) hG ⟨_, rfl⟩ ?_
              refine ih _ (nI j - 1) rfl (by omega) (fun q hq => by rw [tv_st_k (by omega)]; exact hfr q hq) (fun c h1 h2 => ?_)
              by_cases hc : c = f * 9 + j
              · rw [hc, tv_st_eq, hval]; rfl
              · rw [tv_st_j hc]; exact hw c (by omega) h2
        exact loop (σ 2 f) _ _ (by rw [← tv_n1, pk_sub (by omega)]) (Nat.le_refl _) (fun _ _ => rfl) (fun c h1 h2 => by omega)
      · refine tv_iload_n hG dX1_value_0 rfl rfl ?_
        refine tv_if_lt (tgt := 18) hG dX1_value_1 (by decide) (by omega) ?_
        refine tv_iload_n hG dX1_value_4 rfl rfl ?_
        refine tv_bipush (x := nI 80) hG dX1_value_5 rfl ?_
        refine tv_icmp_gt (tgt := 18) hG dX1_value_7 (by decide) (by omega) (by omega) (fun q => by exfalso; omega) (fun _ => ?_)
        refine tv_aload_n hG dX1_value_10 rfl rfl ?_
        refine tv_iload_n hG dX1_value_11 rfl rfl ?_
        refine tv_callxI (As := [.int (nI f)]) (st := []) hG (tv_cX_complete_n l D h d σ f hf hGS hcp) q109 q110 q111 q22 q112 (ci := 0) rfl rfl 1 (by decide +kernel) rfl rfl ⟨Nat.le_of_ble_eq_true rfl, Nat.le_of_ble_eq_true rfl⟩ rfl rfl (Nat.le_of_ble_eq_true rfl) dX1_value_12 ?_
        refine tv_if_ne (tgt := 20) hG dX1_value_15 (by decide) (by omega) (fun q => absurd q (by decide)) (fun _ => ?_)
        refine tv_iconst (x := -1) hG dX1_value_18 rfl ?_
        exact hret _ _ _ _ dX1_value_19 ⟨Or.inr ⟨rfl, fun q => by obtain ⟨f1, k1, q1, q2, q3, q4, q5⟩ := q; have e1 : f = f1 := tv_inj (by omega) (by omega) q2; subst e1; exact hcp q5⟩, tv_kp_rd hf hGS⟩
    · refine tv_iload_n hG dX1_value_0 rfl rfl ?_
      refine tv_if_lt (tgt := 18) hG dX1_value_1 (by decide) (by omega) ?_
      refine tv_iload_n hG dX1_value_4 rfl rfl ?_
      refine tv_bipush (x := nI 80) hG dX1_value_5 rfl ?_
      refine tv_icmp_gt (tgt := 18) hG dX1_value_7 (by decide) (by omega) (by omega) (fun q => by exfalso; omega) (fun _ => ?_)
      refine tv_aload_n hG dX1_value_10 rfl rfl ?_
      refine tv_iload_n hG dX1_value_11 rfl rfl ?_
      refine tv_callxI (As := [.int g]) (st := []) hG (tv_cX_complete_f l D h d σ g hbadf) q109 q110 q111 q22 q112 (ci := 0) rfl rfl 1 (by decide +kernel) rfl rfl ⟨Nat.le_of_ble_eq_true rfl, Nat.le_of_ble_eq_true rfl⟩ rfl rfl (Nat.le_of_ble_eq_true rfl) dX1_value_12 ?_
      refine tv_if_ne (tgt := 20) hG dX1_value_15 (by decide) (by omega) (fun q => absurd q (by decide)) (fun _ => ?_)
      refine tv_iconst (x := -1) hG dX1_value_18 rfl ?_
      exact hret _ _ _ _ dX1_value_19 ⟨Or.inr ⟨rfl, fun q => by obtain ⟨f1, k1, q1, q2, q3, q4, q5⟩ := q; exact tv_bad_f hbadf q1 q2⟩, rfl, rfl, rfl⟩
  · refine tv_iload_n hG dX1_value_0 rfl rfl ?_
    refine tv_zif_lt (tgt := 18) hG dX1_value_1 (by decide) (fun _ => ?_) (fun q => absurd hx0 q)
    refine tv_iconst (x := -1) hG dX1_value_18 rfl ?_
    exact hret _ _ _ _ dX1_value_19 ⟨Or.inr ⟨rfl, fun q => by obtain ⟨f1, k1, q1, q2, q3, q4, q5⟩ := q; exact tv_bad_r (M := 80) (m := 80) (by decide) (by decide) (Or.inl hx0) q3 q4⟩, rfl, rfl, rfl⟩
  · refine tv_iload_n hG dX1_value_0 rfl rfl ?_
    refine tv_zif_lt (tgt := 18) hG dX1_value_1 (by decide) (fun q => absurd (Int32.lt_trans hx7 q) (by decide)) (fun _ => ?_)
    refine tv_iload_n hG dX1_value_4 rfl rfl ?_
    refine tv_bipush (x := nI 80) hG dX1_value_5 rfl ?_
    refine tv_zicmp_gt (tgt := 18) hG dX1_value_7 (by decide) (fun _ => ?_) (fun q => absurd (by rw [show nI 80 = 80 by decide]; exact hx7) q)
    refine tv_iconst (x := -1) hG dX1_value_18 rfl ?_
    exact hret _ _ _ _ dX1_value_19 ⟨Or.inr ⟨rfl, fun q => by obtain ⟨f1, k1, q1, q2, q3, q4, q5⟩ := q; exact tv_bad_r (M := 80) (m := 80) (by decide) (by decide) (Or.inr hx7) q3 q4⟩, rfl, rfl, rfl⟩
end
section
set_option maxRecDepth 100000
/-! WALKS: the questions of ThreeValued, against the specs -/
theorem tv_p7 : ∀ v, v < 3 → 1 * 2 ^ v ≠ 7 := by decide +kernel
theorem tv_kp_to {σ ρ τ : tv_M} (h : tv_kp σ ρ) (h2 : ∀ q, q < 3 → τ q = ρ q) : tv_kp σ τ := ⟨by rw [h2 0 (by decide), h.1], by rw [h2 1 (by decide), h.2.1], by rw [h2 2 (by decide), h.2.2]⟩
theorem tv_F_ask {σ ρ : tv_M} {f A B : Nat} (hf : f < 2) (hG : tv_GS (σ 1) (σ 2) (σ 0 0)) (hcp : tv_CP (σ 1) (σ 2) f) (h : ∀ q, q < 7 → ρ q = tv_rd σ f (σ 2 f) q) : tv_F (tv_ask ρ A B) (tv_okk (σ 2) (fun q => q = f)) (tv_szz (σ 1) (σ 2)) (tv_VV (σ 1) (σ 2) (σ 0 0)) := by
  have hrd := tv_rd_GS hf hG
  refine tv_F_one hf hG hcp ?_ ?_ ?_
  · rw [tv_ask_k (by decide), h 0 (by decide), hrd 0 (by omega)]
  · rw [tv_ask_k (by decide), h 1 (by decide), hrd 1 (by omega)]
  · rw [tv_ask_k (by decide), h 3 (by decide)]
def tv_rd2 (σ : tv_M) : tv_M := tv_rd (tv_rd σ 0 (σ 2 0)) 1 (tv_rd σ 0 (σ 2 0) 2 1)
theorem tv_GS_rd {σ : tv_M} {f : Nat} (hf : f < 2) (hG : tv_GS (σ 1) (σ 2) (σ 0 0)) : tv_GS (tv_rd σ f (σ 2 f) 1) (tv_rd σ f (σ 2 f) 2) (tv_rd σ f (σ 2 f) 0 0) := by
  have hrd := tv_rd_GS hf hG
  rw [hrd 0 (by omega), hrd 1 (by omega), hrd 2 (by omega)]
  exact hG
theorem tv_rd2_k {σ : tv_M} (hG : tv_GS (σ 1) (σ 2) (σ 0 0)) : ∀ q, q < 3 ∨ 6 < q → tv_rd2 σ q = σ q := by
  intro q hq
  unfold tv_rd2
  rw [tv_rd_GS (by decide) (tv_GS_rd (by decide) hG) q hq, tv_rd_GS (by decide) hG q hq]
theorem tv_F_ask2 {σ ρ : tv_M} {A B : Nat} (hG : tv_GS (σ 1) (σ 2) (σ 0 0)) (hcp : tv_CP (σ 1) (σ 2) 0 ∧ tv_CP (σ 1) (σ 2) 1) (h : ∀ q, q < 7 → ρ q = tv_rd2 σ q) : tv_F (tv_ask ρ A B) (tv_okk (σ 2) (fun _ => True)) (tv_szz (σ 1) (σ 2)) (tv_VV (σ 1) (σ 2) (σ 0 0)) := by
  have hrd := tv_rd2_k hG
  refine tv_F_two hG hcp ?_ ?_ ?_
  · rw [tv_ask_k (by decide), h 0 (by decide), hrd 0 (by omega)]
  · rw [tv_ask_k (by decide), h 1 (by decide), hrd 1 (by omega)]
  · rw [tv_ask_k (by decide), h 3 (by decide)]
    rfl
set_option maxHeartbeats 4000000 in
theorem tv_cX_find (l : Launch) (D : va_G) (h : Nat → Nat) (d : Nat → ClassId) (σ : tv_M) (g v : Int32) (hGS : tv_GS (σ 1) (σ 2) (σ 0 0)) : tv_CI l yX1_find cX1_find 3 (some .int) ({ frames := 6, cells := 0, slots := 0, locals := 143 } : Room) D (tv_tX d) (tv_wX h d) [.ref (h 0), .int g, .int v] σ (fun z τ => tv_pFind (σ 1) (σ 2) (σ 0 0) g v z ∧ tv_kp σ τ) := by
  refine tv_inI (own := RX1) (by decide) rfl (by simp [Value.category]) (Nat.le_of_ble_eq_true rfl) ?_
  intro G hG hret
  rcases tv_vcase v with ⟨x, hx, rfl⟩ | hbad
  · rcases tv_fcase g with ⟨f, hf, rfl⟩ | hbadf
    · have hrd := tv_rd_GS hf hGS
      by_cases hcp : tv_CP (σ 1) (σ 2) f
      · have p2 := tv_p2 x hx
        refine tv_iload_n hG dX1_find_0 rfl rfl ?_
        refine tv_callSxI (As := [.int (nI x)]) (st := []) hG (tv_cX_isValue_t l D h d σ x (by omega)) q148 q149 q22 q150 1 (by decide +kernel) rfl rfl ⟨Nat.le_of_ble_eq_true rfl, Nat.le_of_ble_eq_true rfl⟩ rfl rfl (Nat.le_of_ble_eq_true rfl) dX1_find_1 ?_
        refine tv_if_eq (tgt := 15) hG dX1_find_4 (by decide) (by omega) (fun q => absurd q (by decide)) (fun _ => ?_)
        refine tv_aload_n hG dX1_find_7 rfl rfl ?_
        refine tv_iload_n hG dX1_find_8 rfl rfl ?_
        refine tv_callxI (As := [.int (nI f)]) (st := []) hG (tv_cX_complete_t l D h d σ f hf hGS hcp) q109 q110 q111 q22 q112 (ci := 0) rfl rfl 1 (by decide +kernel) rfl rfl ⟨Nat.le_of_ble_eq_true rfl, Nat.le_of_ble_eq_true rfl⟩ rfl rfl (Nat.le_of_ble_eq_true rfl) dX1_find_9 ?_
        refine tv_if_ne (tgt := 17) hG dX1_find_12 (by decide) (by omega) (fun _ => ?_) (fun q => absurd q (by decide))
        refine tv_aload_n hG dX1_find_17 rfl rfl ?_
        refine tv_iload_n hG dX1_find_18 rfl rfl ?_
        refine tv_iconst (x := nI 1) hG dX1_find_19 rfl ?_
        refine tv_iload_n hG dX1_find_20 rfl rfl ?_
        refine tv_ishl hG dX1_find_21 (by omega) (tv_shlt (by omega) (by omega)) ?_
        refine tv_callxV (As := [.int (nI f), .int (nI (1 * 2 ^ x))]) (st := []) hG (tv_cX_askOne l D h d (tv_rd σ f (σ 2 f)) f (1 * 2 ^ x) hf) q151 q153 qs4 q22 q154 (ci := 0) rfl rfl 2 (by decide +kernel) rfl rfl ⟨Nat.le_of_ble_eq_true rfl, Nat.le_of_ble_eq_true rfl⟩ rfl rfl (Nat.le_of_ble_eq_true rfl) dX1_find_22 ?_
        refine tv_aload_n hG dX1_find_25 rfl rfl ?_
        refine tv_callI (As := []) (st := []) hG (tv_cX_least l D h d (tv_ask (tv_rd σ f (σ 2 f)) (tv_a1f f (1 * 2 ^ x)) (tv_a1g f (1 * 2 ^ x))) (tv_okk (σ 2) (fun q => q = f)) (tv_szz (σ 1) (σ 2)) (tv_VV (σ 1) (σ 2) (σ 0 0)) (tv_F_ask hf hGS hcp (fun _ _ => rfl)) (tv_one_Q hGS hf rfl hcp p2)) q159 q161 qs6 q22 q162 (ci := 0) rfl rfl 0 (by decide +kernel) rfl rfl ⟨Nat.le_of_ble_eq_true rfl, Nat.le_of_ble_eq_true rfl⟩ rfl rfl (Nat.le_of_ble_eq_true rfl) dX1_find_26 (fun z τ hp => ?_)
        refine hret _ _ _ _ dX1_find_29 ⟨tv_le_Lst (tv_VVc hGS) hp.1 (fun k hk => ?_), tv_kp_to (tv_kp_rd hf hGS) (fun q hq => by rw [hp.2 q (by omega) (by omega), tv_ask_k (by omega)])⟩
        have hE := tv_EV_lt hGS hf hcp k
        rw [tv_onef hf hcp, tv_one_T hf (tv_p7 x hx), tv_one_bit x hx _ hE, tv_nI2 (by omega) (by omega)]
      · refine tv_iload_n hG dX1_find_0 rfl rfl ?_
        refine tv_callSxI (As := [.int (nI x)]) (st := []) hG (tv_cX_isValue_t l D h d σ x (by omega)) q148 q149 q22 q150 1 (by decide +kernel) rfl rfl ⟨Nat.le_of_ble_eq_true rfl, Nat.le_of_ble_eq_true rfl⟩ rfl rfl (Nat.le_of_ble_eq_true rfl) dX1_find_1 ?_
        refine tv_if_eq (tgt := 15) hG dX1_find_4 (by decide) (by omega) (fun q => absurd q (by decide)) (fun _ => ?_)
        refine tv_aload_n hG dX1_find_7 rfl rfl ?_
        refine tv_iload_n hG dX1_find_8 rfl rfl ?_
        refine tv_callxI (As := [.int (nI f)]) (st := []) hG (tv_cX_complete_n l D h d σ f hf hGS hcp) q109 q110 q111 q22 q112 (ci := 0) rfl rfl 1 (by decide +kernel) rfl rfl ⟨Nat.le_of_ble_eq_true rfl, Nat.le_of_ble_eq_true rfl⟩ rfl rfl (Nat.le_of_ble_eq_true rfl) dX1_find_9 ?_
        refine tv_if_ne (tgt := 17) hG dX1_find_12 (by decide) (by omega) (fun q => absurd q (by decide)) (fun _ => ?_)
        refine tv_iconst (x := -1) hG dX1_find_15 rfl ?_
        exact hret _ _ _ _ dX1_find_16 ⟨tv_Lst_no (fun k => tv_nocp hf hcp), tv_kp_rd hf hGS⟩
    · refine tv_iload_n hG dX1_find_0 rfl rfl ?_
      refine tv_callSxI (As := [.int (nI x)]) (st := []) hG (tv_cX_isValue_t l D h d σ x (by omega)) q148 q149 q22 q150 1 (by decide +kernel) rfl rfl ⟨Nat.le_of_ble_eq_true rfl, Nat.le_of_ble_eq_true rfl⟩ rfl rfl (Nat.le_of_ble_eq_true rfl) dX1_find_1 ?_
      refine tv_if_eq (tgt := 15) hG dX1_find_4 (by decide) (by omega) (fun q => absurd q (by decide)) (fun _ => ?_)
      refine tv_aload_n hG dX1_find_7 rfl rfl ?_
      refine tv_iload_n hG dX1_find_8 rfl rfl ?_
      refine tv_callxI (As := [.int g]) (st := []) hG (tv_cX_complete_f l D h d σ g hbadf) q109 q110 q111 q22 q112 (ci := 0) rfl rfl 1 (by decide +kernel) rfl rfl ⟨Nat.le_of_ble_eq_true rfl, Nat.le_of_ble_eq_true rfl⟩ rfl rfl (Nat.le_of_ble_eq_true rfl) dX1_find_9 ?_
      refine tv_if_ne (tgt := 17) hG dX1_find_12 (by decide) (by omega) (fun q => absurd q (by decide)) (fun _ => ?_)
      refine tv_iconst (x := -1) hG dX1_find_15 rfl ?_
      exact hret _ _ _ _ dX1_find_16 ⟨tv_Lst_no (fun k => tv_nof hbadf), rfl, rfl, rfl⟩
  · refine tv_iload_n hG dX1_find_0 rfl rfl ?_
    refine tv_callSxI (As := [.int v]) (st := []) hG (tv_cX_isValue_f l D h d σ v hbad) q148 q149 q22 q150 1 (by decide +kernel) rfl rfl ⟨Nat.le_of_ble_eq_true rfl, Nat.le_of_ble_eq_true rfl⟩ rfl rfl (Nat.le_of_ble_eq_true rfl) dX1_find_1 ?_
    refine tv_if_eq (tgt := 15) hG dX1_find_4 (by decide) (by omega) (fun _ => ?_) (fun q => absurd q (by decide))
    refine tv_iconst (x := -1) hG dX1_find_15 rfl ?_
    exact hret _ _ _ _ dX1_find_16 ⟨tv_Lst_no (fun k q => by obtain ⟨f1, q1, q2, q3, q4⟩ := q; exact tv_bad_v hbad (tv_EV_lt hGS q1 q3 k) q4), rfl, rfl, rfl⟩
set_option maxHeartbeats 4000000 in
theorem tv_cX_valid (l : Launch) (D : va_G) (h : Nat → Nat) (d : Nat → ClassId) (σ : tv_M) (g : Int32) (hGS : tv_GS (σ 1) (σ 2) (σ 0 0)) : tv_CI l yX1_valid cX1_valid 2 (some .boolean) ({ frames := 4, cells := 0, slots := 0, locals := 97 } : Room) D (tv_tX d) (tv_wX h d) [.ref (h 0), .int g] σ (fun z τ => tv_pValid (σ 1) (σ 2) (σ 0 0) g z ∧ tv_kp σ τ) := by
  refine tv_inZ (own := RX1) (by decide) rfl (by simp [Value.category]) (Nat.le_of_ble_eq_true rfl) ?_
  intro G hG hret
  rcases tv_fcase g with ⟨f, hf, rfl⟩ | hbadf
  · have hrd := tv_rd_GS hf hGS
    by_cases hcp : tv_CP (σ 1) (σ 2) f
    · refine tv_aload_n hG dX1_valid_0 rfl rfl ?_
      refine tv_iload_n hG dX1_valid_1 rfl rfl ?_
      refine tv_callxI (As := [.int (nI f)]) (st := []) hG (tv_cX_complete_t l D h d σ f hf hGS hcp) q109 q110 q111 q22 q112 (ci := 0) rfl rfl 1 (by decide +kernel) rfl rfl ⟨Nat.le_of_ble_eq_true rfl, Nat.le_of_ble_eq_true rfl⟩ rfl rfl (Nat.le_of_ble_eq_true rfl) dX1_valid_2 ?_
      refine tv_if_ne (tgt := 10) hG dX1_valid_5 (by decide) (by omega) (fun _ => ?_) (fun q => absurd q (by decide))
      refine tv_aload_n hG dX1_valid_10 rfl rfl ?_
      refine tv_iload_n hG dX1_valid_11 rfl rfl ?_
      refine tv_iconst (x := nI 3) hG dX1_valid_12 rfl ?_
      refine tv_callxV (As := [.int (nI f), .int (nI 3)]) (st := []) hG (tv_cX_askOne l D h d (tv_rd σ f (σ 2 f)) f 3 hf) q151 q153 qs4 q22 q154 (ci := 0) rfl rfl 2 (by decide +kernel) rfl rfl ⟨Nat.le_of_ble_eq_true rfl, Nat.le_of_ble_eq_true rfl⟩ rfl rfl (Nat.le_of_ble_eq_true rfl) dX1_valid_13 ?_
      refine tv_aload_n hG dX1_valid_16 rfl rfl ?_
      refine tv_callI (As := []) (st := []) hG (tv_cX_meets l D h d (tv_ask (tv_rd σ f (σ 2 f)) (tv_a1f f 3) (tv_a1g f 3)) (tv_okk (σ 2) (fun q => q = f)) (tv_szz (σ 1) (σ 2)) (tv_VV (σ 1) (σ 2) (σ 0 0)) (tv_F_ask hf hGS hcp (fun _ _ => rfl)) (tv_one_Q hGS hf rfl hcp (by decide))) q163 q165 qs7 q22 q166 (ci := 0) rfl rfl 0 (by decide +kernel) rfl rfl ⟨Nat.le_of_ble_eq_true rfl, Nat.le_of_ble_eq_true rfl⟩ rfl rfl (Nat.le_of_ble_eq_true rfl) dX1_valid_17 (fun z τ hp => ?_)
      obtain ⟨hp, hfr⟩ := hp
      have hkp : tv_kp σ τ := tv_kp_to (tv_kp_rd hf hGS) (fun q hq => by rw [hfr q (by omega), tv_ask_k (by omega)])
      have hmt : (∃ a, tv_T (tv_ask (tv_rd σ f (σ 2 f)) (tv_a1f f 3) (tv_a1g f 3)) (tv_VV (σ 1) (σ 2) (σ 0 0)) a) ↔ ∃ k, k ≤ 80 ∧ tv_EV (σ 1) (σ 2) (σ 0 0) f k ≠ 2 := by
        rw [tv_ex_k (tv_VVc hGS)]
        refine exists_congr (fun k => and_congr Iff.rfl ?_)
        rw [tv_one_T hf (by decide), tv_3bit _ (tv_EV_lt hGS hf hcp k)]
      rcases hp with ⟨rfl, hyes⟩ | ⟨rfl, hno⟩
      · refine tv_if_ne (tgt := 27) hG dX1_valid_20 (by decide) (by omega) (fun _ => ?_) (fun q => absurd q (by decide))
        refine tv_iconst (x := nI 0) hG dX1_valid_27 rfl ?_
        exact hret _ _ _ _ dX1_valid_28 (by decide) ⟨Or.inr ⟨rfl, fun q => by rw [tv_onef hf hcp] at q; obtain ⟨k, k1, k2⟩ := hmt.mp hyes; exact k2 (q k k1)⟩, hkp⟩
      · refine tv_if_ne (tgt := 27) hG dX1_valid_20 (by decide) (by omega) (fun q => absurd q (by decide)) (fun _ => ?_)
        refine tv_iconst (x := nI 1) hG dX1_valid_23 rfl ?_
        refine tv_goto (tgt := 28) hG dX1_valid_24 (by decide) ?_
        exact hret _ _ _ _ dX1_valid_28 (by decide) ⟨Or.inl ⟨rfl, (tv_onef hf hcp).mpr (fun k hk => Classical.byContradiction (fun q => by obtain ⟨a, ha⟩ := hmt.mpr ⟨k, hk, q⟩; exact hno a ha))⟩, hkp⟩
    · refine tv_aload_n hG dX1_valid_0 rfl rfl ?_
      refine tv_iload_n hG dX1_valid_1 rfl rfl ?_
      refine tv_callxI (As := [.int (nI f)]) (st := []) hG (tv_cX_complete_n l D h d σ f hf hGS hcp) q109 q110 q111 q22 q112 (ci := 0) rfl rfl 1 (by decide +kernel) rfl rfl ⟨Nat.le_of_ble_eq_true rfl, Nat.le_of_ble_eq_true rfl⟩ rfl rfl (Nat.le_of_ble_eq_true rfl) dX1_valid_2 ?_
      refine tv_if_ne (tgt := 10) hG dX1_valid_5 (by decide) (by omega) (fun q => absurd q (by decide)) (fun _ => ?_)
      refine tv_iconst (x := nI 0) hG dX1_valid_8 rfl ?_
      exact hret _ _ _ _ dX1_valid_9 (by decide) ⟨Or.inr ⟨rfl, tv_nocp hf hcp⟩, tv_kp_rd hf hGS⟩
  · refine tv_aload_n hG dX1_valid_0 rfl rfl ?_
    refine tv_iload_n hG dX1_valid_1 rfl rfl ?_
    refine tv_callxI (As := [.int g]) (st := []) hG (tv_cX_complete_f l D h d σ g hbadf) q109 q110 q111 q22 q112 (ci := 0) rfl rfl 1 (by decide +kernel) rfl rfl ⟨Nat.le_of_ble_eq_true rfl, Nat.le_of_ble_eq_true rfl⟩ rfl rfl (Nat.le_of_ble_eq_true rfl) dX1_valid_2 ?_
    refine tv_if_ne (tgt := 10) hG dX1_valid_5 (by decide) (by omega) (fun q => absurd q (by decide)) (fun _ => ?_)
    refine tv_iconst (x := nI 0) hG dX1_valid_8 rfl ?_
    exact hret _ _ _ _ dX1_valid_9 (by decide) ⟨Or.inr ⟨rfl, tv_nof hbadf⟩, rfl, rfl, rfl⟩
set_option maxHeartbeats 4000000 in
theorem tv_cX_values (l : Launch) (D : va_G) (h : Nat → Nat) (d : Nat → ClassId) (σ : tv_M) (g : Int32) (hGS : tv_GS (σ 1) (σ 2) (σ 0 0)) : tv_CI l yX1_values cX1_values 4 (some .int) ({ frames := 4, cells := 0, slots := 0, locals := 97 } : Room) D (tv_tX d) (tv_wX h d) [.ref (h 0), .int g] σ (fun z τ => tv_pVs (σ 1) (σ 2) (σ 0 0) g z ∧ tv_kp σ τ) := by
  refine tv_inI (own := RX1) (by decide) rfl (by simp [Value.category]) (Nat.le_of_ble_eq_true rfl) ?_
  intro G hG hret
  rcases tv_fcase g with ⟨f, hf, rfl⟩ | hbadf
  · have hrd := tv_rd_GS hf hGS
    by_cases hcp : tv_CP (σ 1) (σ 2) f
    · refine tv_aload_n hG dX1_values_0 rfl rfl ?_
      refine tv_iload_n hG dX1_values_1 rfl rfl ?_
      refine tv_callxI (As := [.int (nI f)]) (st := []) hG (tv_cX_complete_t l D h d σ f hf hGS hcp) q109 q110 q111 q22 q112 (ci := 0) rfl rfl 1 (by decide +kernel) rfl rfl ⟨Nat.le_of_ble_eq_true rfl, Nat.le_of_ble_eq_true rfl⟩ rfl rfl (Nat.le_of_ble_eq_true rfl) dX1_values_2 ?_
      refine tv_if_ne (tgt := 10) hG dX1_values_5 (by decide) (by omega) (fun _ => ?_) (fun q => absurd q (by decide))
      refine tv_iconst (x := nI 0) hG dX1_values_10 rfl ?_
      refine tv_istore_n (vs1 := [.ref (h 0), .int (nI f), .int (nI 0)]) hG dX1_values_11 rfl (by decide) (Nat.le_of_ble_eq_true rfl) rfl ?_
      refine tv_iconst (x := nI 0) hG dX1_values_12 rfl ?_
      refine tv_istore_n (vs1 := [.ref (h 0), .int (nI f), .int (nI 0), .int (nI 0)]) hG dX1_values_13 rfl (by decide) (Nat.le_of_ble_eq_true rfl) rfl ?_
      have loop : ∀ (k v s : Nat) (ρ : tv_M), v + k = 3 → s < 8 → (∀ x, x < 3 → (s.testBit x = true ↔ (x < v ∧ (∃ k, k ≤ 80 ∧ tv_EV (σ 1) (σ 2) (σ 0 0) f k = x)))) → (∀ q, q < 7 → ρ q = tv_rd σ f (σ 2 f) q) → G 14 [.ref (h 0), .int (nI f), .int (nI s), .int (nI v)] [] ρ := by
        intro k
        induction k with
        | zero =>
          intro v s ρ hv hs8 hs hfr
          refine tv_iload_n hG dX1_values_14 rfl rfl ?_
          refine tv_iconst (x := nI 3) hG dX1_values_15 rfl ?_
          refine tv_icmp_ge (tgt := 46) hG dX1_values_16 (by decide) (by omega) (by omega) (fun _ => ?_) (fun q => by exfalso; omega)
          refine tv_iload_n hG dX1_values_46 rfl rfl ?_
          refine hret _ _ _ _ dX1_values_47 ⟨⟨s, hs8, rfl, fun x hx => ?_⟩, tv_kp_to (tv_kp_rd hf hGS) (fun q hq => hfr q (by omega))⟩
          rw [hs x hx]
          constructor
          · rintro ⟨-, k, k1, k2⟩; exact ⟨k, f, k1, hf, rfl, hcp, k2⟩
          · rintro ⟨k, f1, k1, q1, q2, q3, q4⟩; have e : f = f1 := tv_inj (by omega) (by omega) q2; subst e; exact ⟨by omega, k, k1, q4⟩
        | succ k ih =>
          intro v s ρ hv hs8 hs hfr
          have p2 := tv_p2 v (by omega)
          obtain ⟨o8, ob⟩ := tv_bits2 s hs8 v (by omega)
          refine tv_iload_n hG dX1_values_14 rfl rfl ?_
          refine tv_iconst (x := nI 3) hG dX1_values_15 rfl ?_
          refine tv_icmp_ge (tgt := 46) hG dX1_values_16 (by decide) (by omega) (by omega) (fun q => by exfalso; omega) (fun _ => ?_)
          refine tv_aload_n hG dX1_values_19 rfl rfl ?_
          refine tv_iload_n hG dX1_values_20 rfl rfl ?_
          refine tv_iconst (x := nI 1) hG dX1_values_21 rfl ?_
          refine tv_iload_n hG dX1_values_22 rfl rfl ?_
          refine tv_ishl hG dX1_values_23 (by omega) (tv_shlt (by omega) (by omega)) ?_
          refine tv_callxV (As := [.int (nI f), .int (nI (1 * 2 ^ v))]) (st := []) hG (tv_cX_askOne l D h d ρ f (1 * 2 ^ v) hf) q151 q153 qs4 q22 q154 (ci := 0) rfl rfl 2 (by decide +kernel) rfl rfl ⟨Nat.le_of_ble_eq_true rfl, Nat.le_of_ble_eq_true rfl⟩ rfl rfl (Nat.le_of_ble_eq_true rfl) dX1_values_24 ?_
          refine tv_aload_n hG dX1_values_27 rfl rfl ?_
          refine tv_callI (As := []) (st := []) hG (tv_cX_meets l D h d (tv_ask ρ (tv_a1f f (1 * 2 ^ v)) (tv_a1g f (1 * 2 ^ v))) (tv_okk (σ 2) (fun q => q = f)) (tv_szz (σ 1) (σ 2)) (tv_VV (σ 1) (σ 2) (σ 0 0)) (tv_F_ask hf hGS hcp hfr) (tv_one_Q hGS hf rfl hcp p2)) q163 q165 qs7 q22 q166 (ci := 0) rfl rfl 0 (by decide +kernel) rfl rfl ⟨Nat.le_of_ble_eq_true rfl, Nat.le_of_ble_eq_true rfl⟩ rfl rfl (Nat.le_of_ble_eq_true rfl) dX1_values_28 (fun z τ hp => ?_)
          obtain ⟨hp, hf2⟩ := hp
          have hfr2 : ∀ q, q < 7 → τ q = tv_rd σ f (σ 2 f) q := fun q hq => by rw [hf2 q (by omega), tv_ask_k (by omega)]; exact hfr q hq
          have hmt : (∃ a, tv_T (tv_ask ρ (tv_a1f f (1 * 2 ^ v)) (tv_a1g f (1 * 2 ^ v))) (tv_VV (σ 1) (σ 2) (σ 0 0)) a) ↔ ∃ k, k ≤ 80 ∧ tv_EV (σ 1) (σ 2) (σ 0 0) f k = v := by
            rw [tv_ex_k (tv_VVc hGS)]
            refine exists_congr (fun k => and_congr Iff.rfl ?_)
            rw [tv_one_T hf (tv_p7 v (by omega)), tv_one_bit v (by omega) _ (tv_EV_lt hGS hf hcp k)]
          rcases hp with ⟨rfl, hyes⟩ | ⟨rfl, hno⟩
          · refine tv_if_eq (tgt := 40) hG dX1_values_31 (by decide) (by omega) (fun q => absurd q (by decide)) (fun _ => ?_)
            refine tv_iload_n hG dX1_values_34 rfl rfl ?_
            refine tv_iconst (x := nI 1) hG dX1_values_35 rfl ?_
            refine tv_iload_n hG dX1_values_36 rfl rfl ?_
            refine tv_ishl hG dX1_values_37 (by omega) (tv_shlt (by omega) (by omega)) ?_
            refine tv_ior hG dX1_values_38 ?_
            refine tv_istore_n (vs1 := [.ref (h 0), .int (nI f), .int (nI (s ||| (1 * 2 ^ v))), .int (nI v)]) hG dX1_values_39 rfl (by decide) (Nat.le_of_ble_eq_true rfl) rfl ?_
            refine tv_iinc (y := nI (v + 1)) (vs1 := [.ref (h 0), .int (nI f), .int (nI (s ||| (1 * 2 ^ v))), .int (nI (v + 1))]) hG dX1_values_40 rfl (nI_1 _) (by decide) rfl ?_
            refine tv_goto (tgt := 14) hG dX1_values_43 (by decide) ?_
            refine ih (v + 1) (s ||| 1 * 2 ^ v) τ (by omega) o8 (fun x hx => ?_) hfr2
            rw [ob x hx, hs x hx]
            constructor
            · rintro (⟨q1, q2⟩ | rfl)
              · exact ⟨by omega, q2⟩
              · exact ⟨by omega, hmt.mp hyes⟩
            · rintro ⟨q1, q2⟩
              rcases Nat.lt_or_ge x v with q | q
              · exact Or.inl ⟨q, q2⟩
              · exact Or.inr (by omega)
          · refine tv_if_eq (tgt := 40) hG dX1_values_31 (by decide) (by omega) (fun _ => ?_) (fun q => absurd q (by decide))
            refine tv_iinc (y := nI (v + 1)) (vs1 := [.ref (h 0), .int (nI f), .int (nI s), .int (nI (v + 1))]) hG dX1_values_40 rfl (nI_1 _) (by decide) rfl ?_
            refine tv_goto (tgt := 14) hG dX1_values_43 (by decide) ?_
            refine ih (v + 1) s τ (by omega) hs8 (fun x hx => ?_) hfr2
            rw [hs x hx]
            constructor
            · rintro ⟨q1, q2⟩; exact ⟨by omega, q2⟩
            · rintro ⟨q1, q2⟩
              refine ⟨?_, q2⟩
              rcases Nat.lt_or_ge x v with q | q
              · exact q
              · exfalso; have e : x = v := by omega
                subst e; obtain ⟨a, ha⟩ := hmt.mpr q2; exact hno a ha
      exact loop 3 0 0 _ (by omega) (by decide) (fun x _ => ⟨fun q => by simp at q, fun q => by omega⟩) (fun _ _ => rfl)
    · refine tv_aload_n hG dX1_values_0 rfl rfl ?_
      refine tv_iload_n hG dX1_values_1 rfl rfl ?_
      refine tv_callxI (As := [.int (nI f)]) (st := []) hG (tv_cX_complete_n l D h d σ f hf hGS hcp) q109 q110 q111 q22 q112 (ci := 0) rfl rfl 1 (by decide +kernel) rfl rfl ⟨Nat.le_of_ble_eq_true rfl, Nat.le_of_ble_eq_true rfl⟩ rfl rfl (Nat.le_of_ble_eq_true rfl) dX1_values_2 ?_
      refine tv_if_ne (tgt := 10) hG dX1_values_5 (by decide) (by omega) (fun q => absurd q (by decide)) (fun _ => ?_)
      refine tv_iconst (x := nI 0) hG dX1_values_8 rfl ?_
      exact hret _ _ _ _ dX1_values_9 ⟨⟨0, by decide, rfl, fun v _ => ⟨fun q => by simp at q, fun q => by obtain ⟨k, f1, q0, q1, q2, q3, q4⟩ := q; have e : f = f1 := tv_inj (by omega) (by omega) q2; subst e; exact absurd q3 hcp⟩⟩, tv_kp_rd hf hGS⟩
  · refine tv_aload_n hG dX1_values_0 rfl rfl ?_
    refine tv_iload_n hG dX1_values_1 rfl rfl ?_
    refine tv_callxI (As := [.int g]) (st := []) hG (tv_cX_complete_f l D h d σ g hbadf) q109 q110 q111 q22 q112 (ci := 0) rfl rfl 1 (by decide +kernel) rfl rfl ⟨Nat.le_of_ble_eq_true rfl, Nat.le_of_ble_eq_true rfl⟩ rfl rfl (Nat.le_of_ble_eq_true rfl) dX1_values_2 ?_
    refine tv_if_ne (tgt := 10) hG dX1_values_5 (by decide) (by omega) (fun q => absurd q (by decide)) (fun _ => ?_)
    refine tv_iconst (x := nI 0) hG dX1_values_8 rfl ?_
    exact hret _ _ _ _ dX1_values_9 ⟨⟨0, by decide, rfl, fun v _ => ⟨fun q => by simp at q, fun q => by obtain ⟨k, f1, q0, q1, q2, q3⟩ := q; exact absurd q2 (tv_bad_f hbadf q1)⟩⟩, rfl, rfl, rfl⟩
def tv_boP (σ : tv_M) (z : Int32) (τ : tv_M) : Prop := (z = nI 1 ∧ (tv_CP (σ 1) (σ 2) 0 ∧ tv_CP (σ 1) (σ 2) 1) ∧ τ = tv_rd2 σ) ∨ (z = nI 0 ∧ ¬ (tv_CP (σ 1) (σ 2) 0 ∧ tv_CP (σ 1) (σ 2) 1) ∧ ∀ q, q < 3 → τ q = σ q)
set_option maxHeartbeats 4000000 in
theorem tv_cX_both (l : Launch) (D : va_G) (h : Nat → Nat) (d : Nat → ClassId) (σ : tv_M)  (hGS : tv_GS (σ 1) (σ 2) (σ 0 0)) : tv_CI l yX1_both cX1_both 1 (some .boolean) ({ frames := 3, cells := 0, slots := 0, locals := 67 } : Room) D (tv_tX d) (tv_wX h d) [.ref (h 0)] σ (fun z τ => tv_boP σ z τ) := by
  refine tv_inZ (own := RX1) (by decide) rfl (by simp [Value.category]) (Nat.le_of_ble_eq_true rfl) ?_
  intro G hG hret
  have hrd := tv_rd_GS (f := 0) (by decide) hGS
  have hG2 := tv_GS_rd (f := 0) (by decide) hGS
  by_cases hc0 : tv_CP (σ 1) (σ 2) 0
  · by_cases hc1 : tv_CP (σ 1) (σ 2) 1
    · refine tv_aload_n hG dX1_both_0 rfl rfl ?_
      refine tv_iconst (x := nI 0) hG dX1_both_1 rfl ?_
      refine tv_callxI (As := [.int (nI 0)]) (st := []) hG (tv_cX_complete_t l D h d σ 0 (by decide) hGS hc0) q109 q110 q111 q22 q112 (ci := 0) rfl rfl 1 (by decide +kernel) rfl rfl ⟨Nat.le_of_ble_eq_true rfl, Nat.le_of_ble_eq_true rfl⟩ rfl rfl (Nat.le_of_ble_eq_true rfl) dX1_both_2 ?_
      refine tv_if_eq (tgt := 20) hG dX1_both_5 (by decide) (by omega) (fun q => absurd q (by decide)) (fun _ => ?_)
      refine tv_aload_n hG dX1_both_8 rfl rfl ?_
      refine tv_iconst (x := nI 1) hG dX1_both_9 rfl ?_
      refine tv_callxI (As := [.int (nI 1)]) (st := []) hG (tv_cX_complete_t l D h d (tv_rd σ 0 (σ 2 0)) 1 (by decide) hG2 (by rw [hrd 1 (by omega), hrd 2 (by omega)]; exact hc1)) q109 q110 q111 q22 q112 (ci := 0) rfl rfl 1 (by decide +kernel) rfl rfl ⟨Nat.le_of_ble_eq_true rfl, Nat.le_of_ble_eq_true rfl⟩ rfl rfl (Nat.le_of_ble_eq_true rfl) dX1_both_10 ?_
      refine tv_if_eq (tgt := 20) hG dX1_both_13 (by decide) (by omega) (fun q => absurd q (by decide)) (fun _ => ?_)
      refine tv_iconst (x := nI 1) hG dX1_both_16 rfl ?_
      refine tv_goto (tgt := 21) hG dX1_both_17 (by decide) ?_
      exact hret _ _ _ _ dX1_both_21 (by decide) (Or.inl ⟨rfl, ⟨hc0, hc1⟩, rfl⟩)
    · refine tv_aload_n hG dX1_both_0 rfl rfl ?_
      refine tv_iconst (x := nI 0) hG dX1_both_1 rfl ?_
      refine tv_callxI (As := [.int (nI 0)]) (st := []) hG (tv_cX_complete_t l D h d σ 0 (by decide) hGS hc0) q109 q110 q111 q22 q112 (ci := 0) rfl rfl 1 (by decide +kernel) rfl rfl ⟨Nat.le_of_ble_eq_true rfl, Nat.le_of_ble_eq_true rfl⟩ rfl rfl (Nat.le_of_ble_eq_true rfl) dX1_both_2 ?_
      refine tv_if_eq (tgt := 20) hG dX1_both_5 (by decide) (by omega) (fun q => absurd q (by decide)) (fun _ => ?_)
      refine tv_aload_n hG dX1_both_8 rfl rfl ?_
      refine tv_iconst (x := nI 1) hG dX1_both_9 rfl ?_
      refine tv_callxI (As := [.int (nI 1)]) (st := []) hG (tv_cX_complete_n l D h d (tv_rd σ 0 (σ 2 0)) 1 (by decide) hG2 (by rw [hrd 1 (by omega), hrd 2 (by omega)]; exact hc1)) q109 q110 q111 q22 q112 (ci := 0) rfl rfl 1 (by decide +kernel) rfl rfl ⟨Nat.le_of_ble_eq_true rfl, Nat.le_of_ble_eq_true rfl⟩ rfl rfl (Nat.le_of_ble_eq_true rfl) dX1_both_10 ?_
      refine tv_if_eq (tgt := 20) hG dX1_both_13 (by decide) (by omega) (fun _ => ?_) (fun q => absurd q (by decide))
      refine tv_iconst (x := nI 0) hG dX1_both_20 rfl ?_
      exact hret _ _ _ _ dX1_both_21 (by decide) (Or.inr ⟨rfl, fun q => hc1 q.2, fun q hq => tv_rd2_k hGS q (Or.inl hq)⟩)
  · refine tv_aload_n hG dX1_both_0 rfl rfl ?_
    refine tv_iconst (x := nI 0) hG dX1_both_1 rfl ?_
    refine tv_callxI (As := [.int (nI 0)]) (st := []) hG (tv_cX_complete_n l D h d σ 0 (by decide) hGS hc0) q109 q110 q111 q22 q112 (ci := 0) rfl rfl 1 (by decide +kernel) rfl rfl ⟨Nat.le_of_ble_eq_true rfl, Nat.le_of_ble_eq_true rfl⟩ rfl rfl (Nat.le_of_ble_eq_true rfl) dX1_both_2 ?_
    refine tv_if_eq (tgt := 20) hG dX1_both_5 (by decide) (by omega) (fun _ => ?_) (fun q => absurd q (by decide))
    refine tv_iconst (x := nI 0) hG dX1_both_20 rfl ?_
    exact hret _ _ _ _ dX1_both_21 (by decide) (Or.inr ⟨rfl, fun q => hc0 q.1, fun q hq => hrd q (Or.inl hq)⟩)
set_option maxHeartbeats 4000000 in
theorem tv_cX_never (l : Launch) (D : va_G) (h : Nat → Nat) (d : Nat → ClassId) (σ : tv_M) (A B : Nat) (ok : Nat → Prop) (sz : Nat → Nat) (V : (Nat → Nat) → Nat → Nat) (hF : tv_F (tv_ask σ A B) ok sz V) (hQ : tv_Q (tv_ask σ A B) ok sz) : tv_CI l yX1_never cX1_never 3 (some .boolean) ({ frames := 4, cells := 0, slots := 0, locals := 97 } : Room) D (tv_tX d) (tv_wX h d) [.ref (h 0), .int (nI A), .int (nI B)] σ (fun z τ => tv_Bl (¬ ∃ a, tv_T (tv_ask σ A B) V a) z ∧ ∀ q, q < 7 → τ q = σ q) := by
  refine tv_inZ (own := RX1) (by decide) rfl (by simp [Value.category]) (Nat.le_of_ble_eq_true rfl) ?_
  intro G hG hret
  refine tv_aload_n hG dX1_never_0 rfl rfl ?_
  refine tv_iload_n hG dX1_never_1 rfl rfl ?_
  refine tv_iload_n hG dX1_never_2 rfl rfl ?_
  refine tv_callxV (As := [.int (nI A), .int (nI B)]) (st := []) hG (tv_cX_ask l D h d σ A B) q155 q157 qs5 q22 q158 (ci := 0) rfl rfl 2 (by decide +kernel) rfl rfl ⟨Nat.le_of_ble_eq_true rfl, Nat.le_of_ble_eq_true rfl⟩ rfl rfl (Nat.le_of_ble_eq_true rfl) dX1_never_3 ?_
  refine tv_aload_n hG dX1_never_6 rfl rfl ?_
  refine tv_callI (As := []) (st := []) hG (tv_cX_meets l D h d (tv_ask σ A B) ok sz V hF hQ) q163 q165 qs7 q22 q166 (ci := 0) rfl rfl 0 (by decide +kernel) rfl rfl ⟨Nat.le_of_ble_eq_true rfl, Nat.le_of_ble_eq_true rfl⟩ rfl rfl (Nat.le_of_ble_eq_true rfl) dX1_never_7 (fun z τ hp => ?_)
  obtain ⟨hp, hfr⟩ := hp
  have hfr2 : ∀ q, q < 7 → τ q = σ q := fun q hq => by rw [hfr q (by omega), tv_ask_k (by omega)]
  rcases hp with ⟨rfl, hyes⟩ | ⟨rfl, hno⟩
  · refine tv_if_ne (tgt := 17) hG dX1_never_10 (by decide) (by omega) (fun _ => ?_) (fun q => absurd q (by decide))
    refine tv_iconst (x := nI 0) hG dX1_never_17 rfl ?_
    exact hret _ _ _ _ dX1_never_18 (by decide) ⟨Or.inr ⟨rfl, fun q => q hyes⟩, hfr2⟩
  · refine tv_if_ne (tgt := 17) hG dX1_never_10 (by decide) (by omega) (fun q => absurd q (by decide)) (fun _ => ?_)
    refine tv_iconst (x := nI 1) hG dX1_never_13 rfl ?_
    refine tv_goto (tgt := 18) hG dX1_never_14 (by decide) ?_
    exact hret _ _ _ _ dX1_never_18 (by decide) ⟨Or.inl ⟨rfl, fun q => by obtain ⟨a, ha⟩ := q; exact hno a ha⟩, hfr2⟩
set_option maxHeartbeats 4000000 in
theorem tv_cX_findBoth (l : Launch) (D : va_G) (h : Nat → Nat) (d : Nat → ClassId) (σ : tv_M) (v u : Int32) (hGS : tv_GS (σ 1) (σ 2) (σ 0 0)) : tv_CI l yX1_findBoth cX1_findBoth 3 (some .int) ({ frames := 6, cells := 0, slots := 0, locals := 143 } : Room) D (tv_tX d) (tv_wX h d) [.ref (h 0), .int v, .int u] σ (fun z τ => tv_pBoth (σ 1) (σ 2) (σ 0 0) v u z ∧ tv_kp σ τ) := by
  refine tv_inI (own := RX1) (by decide) rfl (by simp [Value.category]) (Nat.le_of_ble_eq_true rfl) ?_
  intro G hG hret
  rcases tv_vcase v with ⟨x, hx, rfl⟩ | hbad
  · rcases tv_vcase u with ⟨y, hy, rfl⟩ | hbad
    · have px := tv_p2 x hx
      have py := tv_p2 y hy
      refine tv_iload_n hG dX1_findBoth_0 rfl rfl ?_
      refine tv_callSxI (As := [.int (nI x)]) (st := []) hG (tv_cX_isValue_t l D h d σ x (by omega)) q148 q149 q22 q150 1 (by decide +kernel) rfl rfl ⟨Nat.le_of_ble_eq_true rfl, Nat.le_of_ble_eq_true rfl⟩ rfl rfl (Nat.le_of_ble_eq_true rfl) dX1_findBoth_1 ?_
      refine tv_if_eq (tgt := 21) hG dX1_findBoth_4 (by decide) (by omega) (fun q => absurd q (by decide)) (fun _ => ?_)
      refine tv_iload_n hG dX1_findBoth_7 rfl rfl ?_
      refine tv_callSxI (As := [.int (nI y)]) (st := []) hG (tv_cX_isValue_t l D h d σ y (by omega)) q148 q149 q22 q150 1 (by decide +kernel) rfl rfl ⟨Nat.le_of_ble_eq_true rfl, Nat.le_of_ble_eq_true rfl⟩ rfl rfl (Nat.le_of_ble_eq_true rfl) dX1_findBoth_8 ?_
      refine tv_if_eq (tgt := 21) hG dX1_findBoth_11 (by decide) (by omega) (fun q => absurd q (by decide)) (fun _ => ?_)
      refine tv_aload_n hG dX1_findBoth_14 rfl rfl ?_
      refine tv_callI (As := []) (st := []) hG (tv_cX_both l D h d σ hGS) q208 q210 qs15 q22 q211 (ci := 0) rfl rfl 0 (by decide +kernel) rfl rfl ⟨Nat.le_of_ble_eq_true rfl, Nat.le_of_ble_eq_true rfl⟩ rfl rfl (Nat.le_of_ble_eq_true rfl) dX1_findBoth_15 (fun z τ hp => ?_)
      rcases hp with ⟨rfl, hcp, rfl⟩ | ⟨rfl, hncp, hfr⟩
      · refine tv_if_ne (tgt := 23) hG dX1_findBoth_18 (by decide) (by omega) (fun _ => ?_) (fun q => absurd q (by decide))
        refine tv_aload_n hG dX1_findBoth_23 rfl rfl ?_
        refine tv_iconst (x := nI 1) hG dX1_findBoth_24 rfl ?_
        refine tv_iload_n hG dX1_findBoth_25 rfl rfl ?_
        refine tv_ishl hG dX1_findBoth_26 (by omega) (tv_shlt (by omega) (by omega)) ?_
        refine tv_iconst (x := nI 1) hG dX1_findBoth_27 rfl ?_
        refine tv_iload_n hG dX1_findBoth_28 rfl rfl ?_
        refine tv_ishl hG dX1_findBoth_29 (by omega) (tv_shlt (by omega) (by omega)) ?_
        refine tv_callxV (As := [.int (nI (1 * 2 ^ x)), .int (nI (1 * 2 ^ y))]) (st := []) hG (tv_cX_ask l D h d (tv_rd2 σ) (1 * 2 ^ x) (1 * 2 ^ y)) q155 q157 qs5 q22 q158 (ci := 0) rfl rfl 2 (by decide +kernel) rfl rfl ⟨Nat.le_of_ble_eq_true rfl, Nat.le_of_ble_eq_true rfl⟩ rfl rfl (Nat.le_of_ble_eq_true rfl) dX1_findBoth_30 ?_
        refine tv_aload_n hG dX1_findBoth_33 rfl rfl ?_
        refine tv_callI (As := []) (st := []) hG (tv_cX_least l D h d (tv_ask (tv_rd2 σ) (1 * 2 ^ x) (1 * 2 ^ y)) (tv_okk (σ 2) (fun _ => True)) (tv_szz (σ 1) (σ 2)) (tv_VV (σ 1) (σ 2) (σ 0 0)) (tv_F_ask2 hGS hcp (fun _ _ => rfl)) (tv_two_Q hGS ⟨trivial, trivial⟩ hcp px py)) q159 q161 qs6 q22 q162 (ci := 0) rfl rfl 0 (by decide +kernel) rfl rfl ⟨Nat.le_of_ble_eq_true rfl, Nat.le_of_ble_eq_true rfl⟩ rfl rfl (Nat.le_of_ble_eq_true rfl) dX1_findBoth_34 (fun z τ hp => ?_)
        refine hret _ _ _ _ dX1_findBoth_37 ⟨tv_le_Lst (tv_VVc hGS) hp.1 (fun k hk => ?_), by rw [hp.2 0 (by omega) (by omega), tv_ask_k (by omega), tv_rd2_k hGS 0 (by omega)], by rw [hp.2 1 (by omega) (by omega), tv_ask_k (by omega), tv_rd2_k hGS 1 (by omega)], by rw [hp.2 2 (by omega) (by omega), tv_ask_k (by omega), tv_rd2_k hGS 2 (by omega)]⟩
        have h0 := tv_EV_lt hGS (f := 0) (by decide) hcp.1 k
        have h1 := tv_EV_lt hGS (f := 1) (by decide) hcp.2 k
        rw [tv_two_T (tv_p7 x hx) (tv_p7 y hy), tv_one_bit x hx _ h0, tv_one_bit y hy _ h1, tv_nI2 (by omega) (by omega), tv_nI2 (by omega) (by omega)]
        exact ⟨fun q => q.2.2, fun q => ⟨hcp.1, hcp.2, q⟩⟩
      · refine tv_if_ne (tgt := 23) hG dX1_findBoth_18 (by decide) (by omega) (fun q => absurd q (by decide)) (fun _ => ?_)
        refine tv_iconst (x := -1) hG dX1_findBoth_21 rfl ?_
        exact hret _ _ _ _ dX1_findBoth_22 ⟨tv_Lst_no (fun k q => hncp ⟨q.1, q.2.1⟩), hfr 0 (by omega), hfr 1 (by omega), hfr 2 (by omega)⟩
    · refine tv_iload_n hG dX1_findBoth_0 rfl rfl ?_
      refine tv_callSxI (As := [.int (nI x)]) (st := []) hG (tv_cX_isValue_t l D h d σ x (by omega)) q148 q149 q22 q150 1 (by decide +kernel) rfl rfl ⟨Nat.le_of_ble_eq_true rfl, Nat.le_of_ble_eq_true rfl⟩ rfl rfl (Nat.le_of_ble_eq_true rfl) dX1_findBoth_1 ?_
      refine tv_if_eq (tgt := 21) hG dX1_findBoth_4 (by decide) (by omega) (fun q => absurd q (by decide)) (fun _ => ?_)
      refine tv_iload_n hG dX1_findBoth_7 rfl rfl ?_
      refine tv_callSxI (As := [.int u]) (st := []) hG (tv_cX_isValue_f l D h d σ u hbad) q148 q149 q22 q150 1 (by decide +kernel) rfl rfl ⟨Nat.le_of_ble_eq_true rfl, Nat.le_of_ble_eq_true rfl⟩ rfl rfl (Nat.le_of_ble_eq_true rfl) dX1_findBoth_8 ?_
      refine tv_if_eq (tgt := 21) hG dX1_findBoth_11 (by decide) (by omega) (fun _ => ?_) (fun q => absurd q (by decide))
      refine tv_iconst (x := -1) hG dX1_findBoth_21 rfl ?_
      exact hret _ _ _ _ dX1_findBoth_22 ⟨tv_Lst_no (fun k q => tv_bad_v hbad (tv_EV_lt hGS (f := 1) (by decide) q.2.1 k) q.2.2.2), rfl, rfl, rfl⟩
  · refine tv_iload_n hG dX1_findBoth_0 rfl rfl ?_
    refine tv_callSxI (As := [.int v]) (st := []) hG (tv_cX_isValue_f l D h d σ v hbad) q148 q149 q22 q150 1 (by decide +kernel) rfl rfl ⟨Nat.le_of_ble_eq_true rfl, Nat.le_of_ble_eq_true rfl⟩ rfl rfl (Nat.le_of_ble_eq_true rfl) dX1_findBoth_1 ?_
    refine tv_if_eq (tgt := 21) hG dX1_findBoth_4 (by decide) (by omega) (fun _ => ?_) (fun q => absurd q (by decide))
    refine tv_iconst (x := -1) hG dX1_findBoth_21 rfl ?_
    exact hret _ _ _ _ dX1_findBoth_22 ⟨tv_Lst_no (fun k q => tv_bad_v hbad (tv_EV_lt hGS (f := 0) (by decide) q.1 k) q.2.2.1), rfl, rfl, rfl⟩
set_option maxHeartbeats 4000000 in
theorem tv_cX_entails (l : Launch) (D : va_G) (h : Nat → Nat) (d : Nat → ClassId) (σ : tv_M)  (hGS : tv_GS (σ 1) (σ 2) (σ 0 0)) : tv_CI l yX1_entails cX1_entails 1 (some .boolean) ({ frames := 5, cells := 0, slots := 0, locals := 119 } : Room) D (tv_tX d) (tv_wX h d) [.ref (h 0)] σ (fun z τ => tv_pEnt (σ 1) (σ 2) (σ 0 0) z ∧ tv_kp σ τ) := by
  refine tv_inZ (own := RX1) (by decide) rfl (by simp [Value.category]) (Nat.le_of_ble_eq_true rfl) ?_
  intro G hG hret
  refine tv_aload_n hG dX1_entails_0 rfl rfl ?_
  refine tv_callI (As := []) (st := []) hG (tv_cX_both l D h d σ hGS) q208 q210 qs15 q22 q211 (ci := 0) rfl rfl 0 (by decide +kernel) rfl rfl ⟨Nat.le_of_ble_eq_true rfl, Nat.le_of_ble_eq_true rfl⟩ rfl rfl (Nat.le_of_ble_eq_true rfl) dX1_entails_1 (fun z τ hp => ?_)
  rcases hp with ⟨rfl, hcp, rfl⟩ | ⟨rfl, hncp, hfr⟩
  · have hk : tv_kp σ (tv_rd2 σ) := ⟨tv_rd2_k hGS 0 (by omega), tv_rd2_k hGS 1 (by omega), tv_rd2_k hGS 2 (by omega)⟩
    have hE0 := fun k => tv_EV_lt hGS (f := 0) (by decide) hcp.1 k
    have hE1 := fun k => tv_EV_lt hGS (f := 1) (by decide) hcp.2 k
    have hfr0 : ∀ q, q < 7 → tv_rd2 σ q = tv_rd2 σ q := fun _ _ => rfl
    refine tv_if_eq (tgt := 20) hG dX1_entails_4 (by decide) (by omega) (fun q => absurd q (by decide)) (fun _ => ?_)
    refine tv_aload_n hG dX1_entails_7 rfl rfl ?_
    refine tv_iconst (x := nI 4) hG dX1_entails_8 rfl ?_
    refine tv_iconst (x := nI 3) hG dX1_entails_9 rfl ?_
    refine tv_callI (As := [.int (nI 4), .int (nI 3)]) (st := []) hG (tv_cX_never l D h d (tv_rd2 σ) 4 3 (tv_okk (σ 2) (fun _ => True)) (tv_szz (σ 1) (σ 2)) (tv_VV (σ 1) (σ 2) (σ 0 0)) (tv_F_ask2 hGS hcp hfr0) (tv_two_Q hGS ⟨trivial, trivial⟩ hcp (by decide) (by decide))) q216 q218 qs16 q22 q219 (ci := 0) rfl rfl 2 (by decide +kernel) rfl rfl ⟨Nat.le_of_ble_eq_true rfl, Nat.le_of_ble_eq_true rfl⟩ rfl rfl (Nat.le_of_ble_eq_true rfl) dX1_entails_10 (fun z τ1 hp => ?_)
    obtain ⟨hp, hf9⟩ := hp
    have hfr1 : ∀ q, q < 7 → τ1 q = tv_rd2 σ q := fun q hq => (hf9 q hq).trans (hfr0 q hq)
    have hm1 : (∃ a, tv_T (tv_ask (tv_rd2 σ) 4 3) (tv_VV (σ 1) (σ 2) (σ 0 0)) a) ↔ ∃ k, k ≤ 80 ∧ (tv_EV (σ 1) (σ 2) (σ 0 0) 0 k = 2 ∧ tv_EV (σ 1) (σ 2) (σ 0 0) 1 k ≠ 2) := by
      rw [tv_ex_k (tv_VVc hGS)]
      refine exists_congr (fun k => and_congr Iff.rfl ?_)
      rw [tv_two_T (by decide) (by decide), tv_4bit _ (hE0 k), tv_3bit _ (hE1 k)]
    rw [hm1] at hp
    have hkp1 : tv_kp σ τ1 := tv_kp_to hk (fun q hq => hfr1 q (by omega))
    rcases hp with ⟨rfl, hb1⟩ | ⟨rfl, hb1⟩
    · refine tv_if_eq (tgt := 20) hG dX1_entails_13 (by decide) (by omega) (fun q => absurd q (by decide)) (fun _ => ?_)
      refine tv_iconst (x := nI 1) hG dX1_entails_16 rfl ?_
      refine tv_goto (tgt := 21) hG dX1_entails_17 (by decide) ?_
      refine hret _ _ _ _ dX1_entails_21 (by decide) ⟨Or.inl ⟨rfl, hcp.1, hcp.2, fun k hk => ?_⟩, hkp1⟩
      have e0 := hE0 k
      have e1 := hE1 k
      have n1 : ¬ (tv_EV (σ 1) (σ 2) (σ 0 0) 0 k = 2 ∧ tv_EV (σ 1) (σ 2) (σ 0 0) 1 k ≠ 2) := fun q => hb1 ⟨k, hk, q⟩
      intro e2
      omega
    · refine tv_if_eq (tgt := 20) hG dX1_entails_13 (by decide) (by omega) (fun _ => ?_) (fun q => absurd q (by decide))
      refine tv_iconst (x := nI 0) hG dX1_entails_20 rfl ?_
      exact hret _ _ _ _ dX1_entails_21 (by decide) ⟨Or.inr ⟨rfl, fun q => hb1 (fun ⟨k, k1, k2, k3⟩ => by have q := q.2.2 k k1; have e0 := hE0 k; have e1 := hE1 k; exact k3 (q k2))⟩, hkp1⟩
  · refine tv_if_eq (tgt := 20) hG dX1_entails_4 (by decide) (by omega) (fun _ => ?_) (fun q => absurd q (by decide))
    refine tv_iconst (x := nI 0) hG dX1_entails_20 rfl ?_
    exact hret _ _ _ _ dX1_entails_21 (by decide) ⟨Or.inr ⟨rfl, fun q => hncp ⟨q.1, q.2.1⟩⟩, hfr 0 (by omega), hfr 1 (by omega), hfr 2 (by omega)⟩
set_option maxHeartbeats 4000000 in
theorem tv_cX_below (l : Launch) (D : va_G) (h : Nat → Nat) (d : Nat → ClassId) (σ : tv_M)  (hGS : tv_GS (σ 1) (σ 2) (σ 0 0)) : tv_CI l yX1_below cX1_below 1 (some .boolean) ({ frames := 5, cells := 0, slots := 0, locals := 119 } : Room) D (tv_tX d) (tv_wX h d) [.ref (h 0)] σ (fun z τ => tv_pBel (σ 1) (σ 2) (σ 0 0) z ∧ tv_kp σ τ) := by
  refine tv_inZ (own := RX1) (by decide) rfl (by simp [Value.category]) (Nat.le_of_ble_eq_true rfl) ?_
  intro G hG hret
  refine tv_aload_n hG dX1_below_0 rfl rfl ?_
  refine tv_callI (As := []) (st := []) hG (tv_cX_both l D h d σ hGS) q208 q210 qs15 q22 q211 (ci := 0) rfl rfl 0 (by decide +kernel) rfl rfl ⟨Nat.le_of_ble_eq_true rfl, Nat.le_of_ble_eq_true rfl⟩ rfl rfl (Nat.le_of_ble_eq_true rfl) dX1_below_1 (fun z τ hp => ?_)
  rcases hp with ⟨rfl, hcp, rfl⟩ | ⟨rfl, hncp, hfr⟩
  · have hk : tv_kp σ (tv_rd2 σ) := ⟨tv_rd2_k hGS 0 (by omega), tv_rd2_k hGS 1 (by omega), tv_rd2_k hGS 2 (by omega)⟩
    have hE0 := fun k => tv_EV_lt hGS (f := 0) (by decide) hcp.1 k
    have hE1 := fun k => tv_EV_lt hGS (f := 1) (by decide) hcp.2 k
    have hfr0 : ∀ q, q < 7 → tv_rd2 σ q = tv_rd2 σ q := fun _ _ => rfl
    refine tv_if_eq (tgt := 29) hG dX1_below_4 (by decide) (by omega) (fun q => absurd q (by decide)) (fun _ => ?_)
    refine tv_aload_n hG dX1_below_7 rfl rfl ?_
    refine tv_iconst (x := nI 2) hG dX1_below_8 rfl ?_
    refine tv_iconst (x := nI 1) hG dX1_below_9 rfl ?_
    refine tv_callI (As := [.int (nI 2), .int (nI 1)]) (st := []) hG (tv_cX_never l D h d (tv_rd2 σ) 2 1 (tv_okk (σ 2) (fun _ => True)) (tv_szz (σ 1) (σ 2)) (tv_VV (σ 1) (σ 2) (σ 0 0)) (tv_F_ask2 hGS hcp hfr0) (tv_two_Q hGS ⟨trivial, trivial⟩ hcp (by decide) (by decide))) q216 q218 qs16 q22 q219 (ci := 0) rfl rfl 2 (by decide +kernel) rfl rfl ⟨Nat.le_of_ble_eq_true rfl, Nat.le_of_ble_eq_true rfl⟩ rfl rfl (Nat.le_of_ble_eq_true rfl) dX1_below_10 (fun z τ1 hp => ?_)
    obtain ⟨hp, hf9⟩ := hp
    have hfr1 : ∀ q, q < 7 → τ1 q = tv_rd2 σ q := fun q hq => (hf9 q hq).trans (hfr0 q hq)
    have hm1 : (∃ a, tv_T (tv_ask (tv_rd2 σ) 2 1) (tv_VV (σ 1) (σ 2) (σ 0 0)) a) ↔ ∃ k, k ≤ 80 ∧ (tv_EV (σ 1) (σ 2) (σ 0 0) 0 k = 1 ∧ tv_EV (σ 1) (σ 2) (σ 0 0) 1 k = 0) := by
      rw [tv_ex_k (tv_VVc hGS)]
      refine exists_congr (fun k => and_congr Iff.rfl ?_)
      rw [tv_two_T (by decide) (by decide), tv_2bit _ (hE0 k), tv_1bit _ (hE1 k)]
    rw [hm1] at hp
    have hkp1 : tv_kp σ τ1 := tv_kp_to hk (fun q hq => hfr1 q (by omega))
    rcases hp with ⟨rfl, hb1⟩ | ⟨rfl, hb1⟩
    · refine tv_if_eq (tgt := 29) hG dX1_below_13 (by decide) (by omega) (fun q => absurd q (by decide)) (fun _ => ?_)
      refine tv_aload_n hG dX1_below_16 rfl rfl ?_
      refine tv_iconst (x := nI 4) hG dX1_below_17 rfl ?_
      refine tv_iconst (x := nI 3) hG dX1_below_18 rfl ?_
      refine tv_callI (As := [.int (nI 4), .int (nI 3)]) (st := []) hG (tv_cX_never l D h d τ1 4 3 (tv_okk (σ 2) (fun _ => True)) (tv_szz (σ 1) (σ 2)) (tv_VV (σ 1) (σ 2) (σ 0 0)) (tv_F_ask2 hGS hcp hfr1) (tv_two_Q hGS ⟨trivial, trivial⟩ hcp (by decide) (by decide))) q216 q218 qs16 q22 q219 (ci := 0) rfl rfl 2 (by decide +kernel) rfl rfl ⟨Nat.le_of_ble_eq_true rfl, Nat.le_of_ble_eq_true rfl⟩ rfl rfl (Nat.le_of_ble_eq_true rfl) dX1_below_19 (fun z τ2 hp => ?_)
      obtain ⟨hp, hf9⟩ := hp
      have hfr2 : ∀ q, q < 7 → τ2 q = tv_rd2 σ q := fun q hq => (hf9 q hq).trans (hfr1 q hq)
      have hm2 : (∃ a, tv_T (tv_ask τ1 4 3) (tv_VV (σ 1) (σ 2) (σ 0 0)) a) ↔ ∃ k, k ≤ 80 ∧ (tv_EV (σ 1) (σ 2) (σ 0 0) 0 k = 2 ∧ tv_EV (σ 1) (σ 2) (σ 0 0) 1 k ≠ 2) := by
        rw [tv_ex_k (tv_VVc hGS)]
        refine exists_congr (fun k => and_congr Iff.rfl ?_)
        rw [tv_two_T (by decide) (by decide), tv_4bit _ (hE0 k), tv_3bit _ (hE1 k)]
      rw [hm2] at hp
      have hkp2 : tv_kp σ τ2 := tv_kp_to hk (fun q hq => hfr2 q (by omega))
      rcases hp with ⟨rfl, hb2⟩ | ⟨rfl, hb2⟩
      · refine tv_if_eq (tgt := 29) hG dX1_below_22 (by decide) (by omega) (fun q => absurd q (by decide)) (fun _ => ?_)
        refine tv_iconst (x := nI 1) hG dX1_below_25 rfl ?_
        refine tv_goto (tgt := 30) hG dX1_below_26 (by decide) ?_
        refine hret _ _ _ _ dX1_below_30 (by decide) ⟨Or.inl ⟨rfl, hcp.1, hcp.2, fun k hk => ?_⟩, hkp2⟩
        have e0 := hE0 k
        have e1 := hE1 k
        have n1 : ¬ (tv_EV (σ 1) (σ 2) (σ 0 0) 0 k = 1 ∧ tv_EV (σ 1) (σ 2) (σ 0 0) 1 k = 0) := fun q => hb1 ⟨k, hk, q⟩
        have n2 : ¬ (tv_EV (σ 1) (σ 2) (σ 0 0) 0 k = 2 ∧ tv_EV (σ 1) (σ 2) (σ 0 0) 1 k ≠ 2) := fun q => hb2 ⟨k, hk, q⟩
        omega
      · refine tv_if_eq (tgt := 29) hG dX1_below_22 (by decide) (by omega) (fun _ => ?_) (fun q => absurd q (by decide))
        refine tv_iconst (x := nI 0) hG dX1_below_29 rfl ?_
        exact hret _ _ _ _ dX1_below_30 (by decide) ⟨Or.inr ⟨rfl, fun q => hb2 (fun ⟨k, k1, k2, k3⟩ => by have q := q.2.2 k k1; have e0 := hE0 k; have e1 := hE1 k; omega)⟩, hkp2⟩
    · refine tv_if_eq (tgt := 29) hG dX1_below_13 (by decide) (by omega) (fun _ => ?_) (fun q => absurd q (by decide))
      refine tv_iconst (x := nI 0) hG dX1_below_29 rfl ?_
      exact hret _ _ _ _ dX1_below_30 (by decide) ⟨Or.inr ⟨rfl, fun q => hb1 (fun ⟨k, k1, k2, k3⟩ => by have q := q.2.2 k k1; have e0 := hE0 k; have e1 := hE1 k; omega)⟩, hkp1⟩
  · refine tv_if_eq (tgt := 29) hG dX1_below_4 (by decide) (by omega) (fun _ => ?_) (fun q => absurd q (by decide))
    refine tv_iconst (x := nI 0) hG dX1_below_29 rfl ?_
    exact hret _ _ _ _ dX1_below_30 (by decide) ⟨Or.inr ⟨rfl, fun q => hncp ⟨q.1, q.2.1⟩⟩, hfr 0 (by omega), hfr 1 (by omega), hfr 2 (by omega)⟩
set_option maxHeartbeats 4000000 in
theorem tv_cX_alike (l : Launch) (D : va_G) (h : Nat → Nat) (d : Nat → ClassId) (σ : tv_M)  (hGS : tv_GS (σ 1) (σ 2) (σ 0 0)) : tv_CI l yX1_alike cX1_alike 1 (some .boolean) ({ frames := 5, cells := 0, slots := 0, locals := 119 } : Room) D (tv_tX d) (tv_wX h d) [.ref (h 0)] σ (fun z τ => tv_pAli (σ 1) (σ 2) (σ 0 0) z ∧ tv_kp σ τ) := by
  refine tv_inZ (own := RX1) (by decide) rfl (by simp [Value.category]) (Nat.le_of_ble_eq_true rfl) ?_
  intro G hG hret
  refine tv_aload_n hG dX1_alike_0 rfl rfl ?_
  refine tv_callI (As := []) (st := []) hG (tv_cX_both l D h d σ hGS) q208 q210 qs15 q22 q211 (ci := 0) rfl rfl 0 (by decide +kernel) rfl rfl ⟨Nat.le_of_ble_eq_true rfl, Nat.le_of_ble_eq_true rfl⟩ rfl rfl (Nat.le_of_ble_eq_true rfl) dX1_alike_1 (fun z τ hp => ?_)
  rcases hp with ⟨rfl, hcp, rfl⟩ | ⟨rfl, hncp, hfr⟩
  · have hk : tv_kp σ (tv_rd2 σ) := ⟨tv_rd2_k hGS 0 (by omega), tv_rd2_k hGS 1 (by omega), tv_rd2_k hGS 2 (by omega)⟩
    have hE0 := fun k => tv_EV_lt hGS (f := 0) (by decide) hcp.1 k
    have hE1 := fun k => tv_EV_lt hGS (f := 1) (by decide) hcp.2 k
    have hfr0 : ∀ q, q < 7 → tv_rd2 σ q = tv_rd2 σ q := fun _ _ => rfl
    refine tv_if_eq (tgt := 39) hG dX1_alike_4 (by decide) (by omega) (fun q => absurd q (by decide)) (fun _ => ?_)
    refine tv_aload_n hG dX1_alike_7 rfl rfl ?_
    refine tv_iconst (x := nI 1) hG dX1_alike_8 rfl ?_
    refine tv_bipush (x := nI 6) hG dX1_alike_9 rfl ?_
    refine tv_callI (As := [.int (nI 1), .int (nI 6)]) (st := []) hG (tv_cX_never l D h d (tv_rd2 σ) 1 6 (tv_okk (σ 2) (fun _ => True)) (tv_szz (σ 1) (σ 2)) (tv_VV (σ 1) (σ 2) (σ 0 0)) (tv_F_ask2 hGS hcp hfr0) (tv_two_Q hGS ⟨trivial, trivial⟩ hcp (by decide) (by decide))) q216 q218 qs16 q22 q219 (ci := 0) rfl rfl 2 (by decide +kernel) rfl rfl ⟨Nat.le_of_ble_eq_true rfl, Nat.le_of_ble_eq_true rfl⟩ rfl rfl (Nat.le_of_ble_eq_true rfl) dX1_alike_11 (fun z τ1 hp => ?_)
    obtain ⟨hp, hf9⟩ := hp
    have hfr1 : ∀ q, q < 7 → τ1 q = tv_rd2 σ q := fun q hq => (hf9 q hq).trans (hfr0 q hq)
    have hm1 : (∃ a, tv_T (tv_ask (tv_rd2 σ) 1 6) (tv_VV (σ 1) (σ 2) (σ 0 0)) a) ↔ ∃ k, k ≤ 80 ∧ (tv_EV (σ 1) (σ 2) (σ 0 0) 0 k = 0 ∧ tv_EV (σ 1) (σ 2) (σ 0 0) 1 k ≠ 0) := by
      rw [tv_ex_k (tv_VVc hGS)]
      refine exists_congr (fun k => and_congr Iff.rfl ?_)
      rw [tv_two_T (by decide) (by decide), tv_1bit _ (hE0 k), tv_6bit _ (hE1 k)]
    rw [hm1] at hp
    have hkp1 : tv_kp σ τ1 := tv_kp_to hk (fun q hq => hfr1 q (by omega))
    rcases hp with ⟨rfl, hb1⟩ | ⟨rfl, hb1⟩
    · refine tv_if_eq (tgt := 39) hG dX1_alike_14 (by decide) (by omega) (fun q => absurd q (by decide)) (fun _ => ?_)
      refine tv_aload_n hG dX1_alike_17 rfl rfl ?_
      refine tv_iconst (x := nI 2) hG dX1_alike_18 rfl ?_
      refine tv_iconst (x := nI 5) hG dX1_alike_19 rfl ?_
      refine tv_callI (As := [.int (nI 2), .int (nI 5)]) (st := []) hG (tv_cX_never l D h d τ1 2 5 (tv_okk (σ 2) (fun _ => True)) (tv_szz (σ 1) (σ 2)) (tv_VV (σ 1) (σ 2) (σ 0 0)) (tv_F_ask2 hGS hcp hfr1) (tv_two_Q hGS ⟨trivial, trivial⟩ hcp (by decide) (by decide))) q216 q218 qs16 q22 q219 (ci := 0) rfl rfl 2 (by decide +kernel) rfl rfl ⟨Nat.le_of_ble_eq_true rfl, Nat.le_of_ble_eq_true rfl⟩ rfl rfl (Nat.le_of_ble_eq_true rfl) dX1_alike_20 (fun z τ2 hp => ?_)
      obtain ⟨hp, hf9⟩ := hp
      have hfr2 : ∀ q, q < 7 → τ2 q = tv_rd2 σ q := fun q hq => (hf9 q hq).trans (hfr1 q hq)
      have hm2 : (∃ a, tv_T (tv_ask τ1 2 5) (tv_VV (σ 1) (σ 2) (σ 0 0)) a) ↔ ∃ k, k ≤ 80 ∧ (tv_EV (σ 1) (σ 2) (σ 0 0) 0 k = 1 ∧ tv_EV (σ 1) (σ 2) (σ 0 0) 1 k ≠ 1) := by
        rw [tv_ex_k (tv_VVc hGS)]
        refine exists_congr (fun k => and_congr Iff.rfl ?_)
        rw [tv_two_T (by decide) (by decide), tv_2bit _ (hE0 k), tv_5bit _ (hE1 k)]
      rw [hm2] at hp
      have hkp2 : tv_kp σ τ2 := tv_kp_to hk (fun q hq => hfr2 q (by omega))
      rcases hp with ⟨rfl, hb2⟩ | ⟨rfl, hb2⟩
      · refine tv_if_eq (tgt := 39) hG dX1_alike_23 (by decide) (by omega) (fun q => absurd q (by decide)) (fun _ => ?_)
        refine tv_aload_n hG dX1_alike_26 rfl rfl ?_
        refine tv_iconst (x := nI 4) hG dX1_alike_27 rfl ?_
        refine tv_iconst (x := nI 3) hG dX1_alike_28 rfl ?_
        refine tv_callI (As := [.int (nI 4), .int (nI 3)]) (st := []) hG (tv_cX_never l D h d τ2 4 3 (tv_okk (σ 2) (fun _ => True)) (tv_szz (σ 1) (σ 2)) (tv_VV (σ 1) (σ 2) (σ 0 0)) (tv_F_ask2 hGS hcp hfr2) (tv_two_Q hGS ⟨trivial, trivial⟩ hcp (by decide) (by decide))) q216 q218 qs16 q22 q219 (ci := 0) rfl rfl 2 (by decide +kernel) rfl rfl ⟨Nat.le_of_ble_eq_true rfl, Nat.le_of_ble_eq_true rfl⟩ rfl rfl (Nat.le_of_ble_eq_true rfl) dX1_alike_29 (fun z τ3 hp => ?_)
        obtain ⟨hp, hf9⟩ := hp
        have hfr3 : ∀ q, q < 7 → τ3 q = tv_rd2 σ q := fun q hq => (hf9 q hq).trans (hfr2 q hq)
        have hm3 : (∃ a, tv_T (tv_ask τ2 4 3) (tv_VV (σ 1) (σ 2) (σ 0 0)) a) ↔ ∃ k, k ≤ 80 ∧ (tv_EV (σ 1) (σ 2) (σ 0 0) 0 k = 2 ∧ tv_EV (σ 1) (σ 2) (σ 0 0) 1 k ≠ 2) := by
          rw [tv_ex_k (tv_VVc hGS)]
          refine exists_congr (fun k => and_congr Iff.rfl ?_)
          rw [tv_two_T (by decide) (by decide), tv_4bit _ (hE0 k), tv_3bit _ (hE1 k)]
        rw [hm3] at hp
        have hkp3 : tv_kp σ τ3 := tv_kp_to hk (fun q hq => hfr3 q (by omega))
        rcases hp with ⟨rfl, hb3⟩ | ⟨rfl, hb3⟩
        · refine tv_if_eq (tgt := 39) hG dX1_alike_32 (by decide) (by omega) (fun q => absurd q (by decide)) (fun _ => ?_)
          refine tv_iconst (x := nI 1) hG dX1_alike_35 rfl ?_
          refine tv_goto (tgt := 40) hG dX1_alike_36 (by decide) ?_
          refine hret _ _ _ _ dX1_alike_40 (by decide) ⟨Or.inl ⟨rfl, hcp.1, hcp.2, fun k hk => ?_⟩, hkp3⟩
          have e0 := hE0 k
          have e1 := hE1 k
          have n1 : ¬ (tv_EV (σ 1) (σ 2) (σ 0 0) 0 k = 0 ∧ tv_EV (σ 1) (σ 2) (σ 0 0) 1 k ≠ 0) := fun q => hb1 ⟨k, hk, q⟩
          have n2 : ¬ (tv_EV (σ 1) (σ 2) (σ 0 0) 0 k = 1 ∧ tv_EV (σ 1) (σ 2) (σ 0 0) 1 k ≠ 1) := fun q => hb2 ⟨k, hk, q⟩
          have n3 : ¬ (tv_EV (σ 1) (σ 2) (σ 0 0) 0 k = 2 ∧ tv_EV (σ 1) (σ 2) (σ 0 0) 1 k ≠ 2) := fun q => hb3 ⟨k, hk, q⟩
          omega
        · refine tv_if_eq (tgt := 39) hG dX1_alike_32 (by decide) (by omega) (fun _ => ?_) (fun q => absurd q (by decide))
          refine tv_iconst (x := nI 0) hG dX1_alike_39 rfl ?_
          exact hret _ _ _ _ dX1_alike_40 (by decide) ⟨Or.inr ⟨rfl, fun q => hb3 (fun ⟨k, k1, k2, k3⟩ => by have q := q.2.2 k k1; have e0 := hE0 k; have e1 := hE1 k; omega)⟩, hkp3⟩
      · refine tv_if_eq (tgt := 39) hG dX1_alike_23 (by decide) (by omega) (fun _ => ?_) (fun q => absurd q (by decide))
        refine tv_iconst (x := nI 0) hG dX1_alike_39 rfl ?_
        exact hret _ _ _ _ dX1_alike_40 (by decide) ⟨Or.inr ⟨rfl, fun q => hb2 (fun ⟨k, k1, k2, k3⟩ => by have q := q.2.2 k k1; have e0 := hE0 k; have e1 := hE1 k; omega)⟩, hkp2⟩
    · refine tv_if_eq (tgt := 39) hG dX1_alike_14 (by decide) (by omega) (fun _ => ?_) (fun q => absurd q (by decide))
      refine tv_iconst (x := nI 0) hG dX1_alike_39 rfl ?_
      exact hret _ _ _ _ dX1_alike_40 (by decide) ⟨Or.inr ⟨rfl, fun q => hb1 (fun ⟨k, k1, k2, k3⟩ => by have q := q.2.2 k k1; have e0 := hE0 k; have e1 := hE1 k; omega)⟩, hkp1⟩
  · refine tv_if_eq (tgt := 39) hG dX1_alike_4 (by decide) (by omega) (fun _ => ?_) (fun q => absurd q (by decide))
    refine tv_iconst (x := nI 0) hG dX1_alike_39 rfl ?_
    exact hret _ _ _ _ dX1_alike_40 (by decide) ⟨Or.inr ⟨rfl, fun q => hncp ⟨q.1, q.2.1⟩⟩, hfr 0 (by omega), hfr 1 (by omega), hfr 2 (by omega)⟩
end
section
set_option maxRecDepth 100000
/-! WALK: findApart of ThreeValued -/
theorem tv_min_a {P Q : Nat → Prop} {m : Nat} (hP : ∀ k, k ≤ 80 → ¬ P k) (hm : m ≤ 80) (hQ : Q m) (hl : ∀ j, j < m → ¬ Q j) : tv_Lst (fun k => P k ∨ Q k) (nI m) := by
  refine Or.inr ⟨m, hm, rfl, Or.inr hQ, fun j hj q => ?_⟩
  rcases q with q | q
  · exact hP j (by omega) q
  · exact hl j hj q
theorem tv_min_b {P Q : Nat → Prop} {b m : Nat} (hb : b ≤ 80) (hP : P b) (hPl : ∀ j, j < b → ¬ P j) (hm : m ≤ 80) (hQ : Q m) (hl : ∀ j, j < m → ¬ Q j) (h : m < b) : tv_Lst (fun k => P k ∨ Q k) (nI m) := by
  refine Or.inr ⟨m, hm, rfl, Or.inr hQ, fun j hj q => ?_⟩
  rcases q with q | q
  · exact hPl j (by omega) q
  · exact hl j hj q
theorem tv_min_c {P Q : Nat → Prop} {b m : Nat} (hb : b ≤ 80) (hP : P b) (hPl : ∀ j, j < b → ¬ P j) (hl : ∀ j, j < m → ¬ Q j) (h : b ≤ m) : tv_Lst (fun k => P k ∨ Q k) (nI b) := by
  refine Or.inr ⟨b, hb, rfl, Or.inl hP, fun j hj q => ?_⟩
  rcases q with q | q
  · exact hPl j hj q
  · exact hl j (by omega) q
theorem tv_min_d {P Q : Nat → Prop} {z : Int32} (hz : tv_Lst P z) (hQ : ∀ k, k ≤ 80 → ¬ Q k) : tv_Lst (fun k => P k ∨ Q k) z :=
  tv_Lst_ext (fun k hk => ⟨Or.inl, fun q => q.resolve_right (hQ k hk)⟩) hz
set_option maxHeartbeats 4000000 in
theorem tv_cX_findApart (l : Launch) (D : va_G) (h : Nat → Nat) (d : Nat → ClassId) (σ : tv_M) (g x : Int32) (hGS : tv_GS (σ 1) (σ 2) (σ 0 0)) : tv_CI l yX1_findApart cX1_findApart 6 (some .int) ({ frames := 6, cells := 0, slots := 0, locals := 143 } : Room) D (tv_tX d) (tv_wX h d) [.ref (h 0), .int g, .int x] σ (fun z τ => tv_pApart (σ 1) (σ 2) (σ 0 0) g x z ∧ tv_kp σ τ) := by
  refine tv_inI (own := RX1) (by decide) rfl (by simp [Value.category]) (Nat.le_of_ble_eq_true rfl) ?_
  intro G hG hret
  rcases tv_rcase x 3 3 (by decide) with ⟨lt, hlt, rfl⟩ | hx0 | hx7
  · rcases tv_fcase g with ⟨f, hf, rfl⟩ | hbadf
    · have hrd := tv_rd_GS hf hGS
      by_cases hcp : tv_CP (σ 1) (σ 2) f
      · refine tv_iload_n hG dX1_findApart_0 rfl rfl ?_
        refine tv_if_lt (tgt := 17) hG dX1_findApart_1 (by decide) (by omega) ?_
        refine tv_iload_n hG dX1_findApart_4 rfl rfl ?_
        refine tv_iconst (x := nI 4) hG dX1_findApart_5 rfl ?_
        refine tv_icmp_ge (tgt := 17) hG dX1_findApart_6 (by decide) (by omega) (by omega) (fun q => by exfalso; omega) (fun _ => ?_)
        refine tv_aload_n hG dX1_findApart_9 rfl rfl ?_
        refine tv_iload_n hG dX1_findApart_10 rfl rfl ?_
        refine tv_callxI (As := [.int (nI f)]) (st := []) hG (tv_cX_complete_t l D h d σ f hf hGS hcp) q109 q110 q111 q22 q112 (ci := 0) rfl rfl 1 (by decide +kernel) rfl rfl ⟨Nat.le_of_ble_eq_true rfl, Nat.le_of_ble_eq_true rfl⟩ rfl rfl (Nat.le_of_ble_eq_true rfl) dX1_findApart_11 ?_
        refine tv_if_ne (tgt := 19) hG dX1_findApart_14 (by decide) (by omega) (fun _ => ?_) (fun q => absurd q (by decide))
        refine tv_iconst (x := -1) hG dX1_findApart_19 rfl ?_
        refine tv_istore_n (vs1 := [.ref (h 0), .int (nI f), .int (nI lt), .int (-1)]) hG dX1_findApart_20 rfl (by decide) (Nat.le_of_ble_eq_true rfl) rfl ?_
        refine tv_iconst (x := nI 0) hG dX1_findApart_21 rfl ?_
        refine tv_istore (vs1 := [.ref (h 0), .int (nI f), .int (nI lt), .int (-1), .int (nI 0)]) hG dX1_findApart_22 (by decide) (Nat.le_of_ble_eq_true rfl) rfl ?_
        have loop : ∀ (n v : Nat) (best : Int32) (ρ : tv_M), v + n = 3 → tv_Lst (fun k => tv_EV (σ 1) (σ 2) (σ 0 0) f k ≠ tv_dg k lt ∧ tv_dg k lt < v) best → (∀ q, q < 7 → ρ q = tv_rd σ f (σ 2 f) q) → G 24 [.ref (h 0), .int (nI f), .int (nI lt), .int best, .int (nI v)] [] ρ := by
          intro n
          induction n with
          | zero =>
            intro v best ρ hv hb hfr
            refine tv_iload hG dX1_findApart_24 rfl ?_
            refine tv_iconst (x := nI 3) hG dX1_findApart_26 rfl ?_
            refine tv_icmp_ge (tgt := 85) hG dX1_findApart_27 (by decide) (by omega) (by omega) (fun _ => ?_) (fun q => by exfalso; omega)
            refine tv_iload_n hG dX1_findApart_85 rfl rfl ?_
            refine hret _ _ _ _ dX1_findApart_86 ⟨tv_Lst_ext (fun k hk => ?_) hb, tv_kp_to (tv_kp_rd hf hGS) (fun q hq => hfr q (by omega))⟩
            constructor
            · rintro ⟨q1, -⟩; exact ⟨f, lt, hf, rfl, by omega, rfl, hcp, q1⟩
            · rintro ⟨f1, l1, q1, q2, q3, q4, q5, q6⟩
              have e : f = f1 := tv_inj (by omega) (by omega) q2
              have e2 : lt = l1 := tv_inj (by omega) (by omega) q4
              subst e; subst e2
              exact ⟨q6, by have := tv_dg_lt k lt; omega⟩
          | succ n ih =>
            intro v best ρ hv hb hfr
            have p2 := tv_p2 v (by omega)
            obtain ⟨u1, u2, u3⟩ := tv_but v (by omega)
            refine tv_iload hG dX1_findApart_24 rfl ?_
            refine tv_iconst (x := nI 3) hG dX1_findApart_26 rfl ?_
            refine tv_icmp_ge (tgt := 85) hG dX1_findApart_27 (by decide) (by omega) (by omega) (fun q => by exfalso; omega) (fun _ => ?_)
            refine tv_aload_n hG dX1_findApart_30 rfl rfl ?_
            refine tv_iload_n hG dX1_findApart_31 rfl rfl ?_
            refine tv_bipush (x := nI 7) hG dX1_findApart_32 rfl ?_
            refine tv_iconst (x := nI 1) hG dX1_findApart_34 rfl ?_
            refine tv_iload hG dX1_findApart_35 rfl ?_
            refine tv_ishl hG dX1_findApart_37 (by omega) (tv_shlt (by omega) (by omega)) ?_
            refine tv_iconst (x := -1) hG dX1_findApart_38 rfl ?_
            refine tv_zixor (z := (nI (1 * 2 ^ v) ^^^ (-1))) hG dX1_findApart_39 rfl ?_
            refine tv_ziand (z := (nI (7 - 1 * 2 ^ v))) hG dX1_findApart_40 (tv_but32 v (by omega)) ?_
            refine tv_callxV (As := [.int (nI f), .int (nI (7 - 1 * 2 ^ v))]) (st := []) hG (tv_cX_askOne l D h d ρ f (7 - 1 * 2 ^ v) hf) q151 q153 qs4 q22 q154 (ci := 0) rfl rfl 2 (by decide +kernel) rfl rfl ⟨Nat.le_of_ble_eq_true rfl, Nat.le_of_ble_eq_true rfl⟩ rfl rfl (Nat.le_of_ble_eq_true rfl) dX1_findApart_41 ?_
            refine tv_aload_n hG dX1_findApart_44 rfl rfl ?_
            refine tv_gX_18 hG dX1_findApart_45 ?_
            refine tv_iload_n hG dX1_findApart_48 rfl rfl ?_
            refine tv_iconst (x := nI 1) hG dX1_findApart_49 rfl ?_
            refine tv_iload hG dX1_findApart_50 rfl ?_
            refine tv_ishl hG dX1_findApart_52 (by omega) (tv_shlt (by omega) (by omega)) ?_
            refine tv_i2b hG dX1_findApart_53 (by omega) ?_
            refine tv_sX_18 hG dX1_findApart_54 (by omega) (by omega) ?_
            refine tv_aload_n hG dX1_findApart_55 rfl rfl ?_
            obtain ⟨hF1, hQ1, hT1⟩ := tv_T_fix (σ := (tv_ask ρ (tv_a1f f (7 - 1 * 2 ^ v)) (tv_a1g f (7 - 1 * 2 ^ v)))) (ρ := (tv_ask ρ (tv_a1f f (7 - 1 * 2 ^ v)) (tv_a1g f (7 - 1 * 2 ^ v)))) (lt := lt) (v := v) (by omega) (by omega) ⟨fun _ _ _ => rfl, fun _ _ => rfl⟩ (by rw [tv_ask_18 _ _ _ lt (by omega)]; exact tv_7 v (by omega)) (tv_F_ask hf hGS hcp hfr) (tv_one_Q hGS hf (A := fun q => q = f) rfl hcp (by omega))
            refine tv_callI (As := []) (st := []) hG (tv_cX_least l D h d (tv_st (tv_ask ρ (tv_a1f f (7 - 1 * 2 ^ v)) (tv_a1g f (7 - 1 * 2 ^ v))) 18 lt (1 * 2 ^ v)) (tv_okk (σ 2) (fun q => q = f)) (tv_szz (σ 1) (σ 2)) (tv_VV (σ 1) (σ 2) (σ 0 0)) hF1 hQ1) q159 q161 qs6 q22 q162 (ci := 0) rfl rfl 0 (by decide +kernel) rfl rfl ⟨Nat.le_of_ble_eq_true rfl, Nat.le_of_ble_eq_true rfl⟩ rfl rfl (Nat.le_of_ble_eq_true rfl) dX1_findApart_56 (fun z τ hp => ?_)
            have hfr2 : ∀ q, q < 7 → τ q = tv_rd σ f (σ 2 f) q := fun q hq => by rw [hp.2 q (by omega) (by omega), tv_st_k (by omega), tv_ask_k (by omega)]; exact hfr q hq
            have hz : tv_Lst (fun k => tv_EV (σ 1) (σ 2) (σ 0 0) f k ≠ tv_dg k lt ∧ tv_dg k lt = v) z := by
              refine tv_le_Lst (tv_VVc hGS) hp.1 (fun k hk => ?_)
              rw [hT1, tv_one_T hf (by omega), u3 _ (tv_EV_lt hGS hf hcp k)]
              constructor
              · rintro ⟨q1, q2⟩; rw [q2] at q1; exact ⟨q1, q2⟩
              · rintro ⟨q1, q2⟩; rw [q2]; exact ⟨q1, rfl⟩
            have hnext : ∀ {u : Int32}, tv_Lst (fun k => (tv_EV (σ 1) (σ 2) (σ 0 0) f k ≠ tv_dg k lt ∧ tv_dg k lt < v) ∨ (tv_EV (σ 1) (σ 2) (σ 0 0) f k ≠ tv_dg k lt ∧ tv_dg k lt = v)) u → tv_Lst (fun k => tv_EV (σ 1) (σ 2) (σ 0 0) f k ≠ tv_dg k lt ∧ tv_dg k lt < v + 1) u := fun hu => tv_Lst_ext (fun k _ => by
              constructor
              · rintro (⟨q1, q2⟩ | ⟨q1, q2⟩)
                · exact ⟨q1, by omega⟩
                · exact ⟨q1, by omega⟩
              · rintro ⟨q1, q2⟩
                rcases Nat.lt_or_ge (tv_dg k lt) v with q | q
                · exact Or.inl ⟨q1, q⟩
                · exact Or.inr ⟨q1, by omega⟩) hu
            rcases hz with ⟨rfl, hno⟩ | ⟨m, hm80, rfl, hm1, hm2⟩
            · refine tv_istore (vs1 := [.ref (h 0), .int (nI f), .int (nI lt), .int best, .int (nI v), .int (-1)]) hG dX1_findApart_59 (by decide) (Nat.le_of_ble_eq_true rfl) rfl ?_
              refine tv_iload hG dX1_findApart_61 rfl ?_
              refine tv_zif_lt (tgt := 79) hG dX1_findApart_63 (by decide) (fun _ => ?_) (fun q => absurd q (by decide))
              refine tv_iinc (y := nI (v + 1)) (vs1 := [.ref (h 0), .int (nI f), .int (nI lt), .int best, .int (nI (v + 1)), .int (-1)]) hG dX1_findApart_79 rfl (nI_1 _) (by decide) rfl ?_
              refine tv_goto (tgt := 24) hG dX1_findApart_82 (by decide) ?_
              refine tv_drop (vs1 := [.ref (h 0), .int (nI f), .int (nI lt), .int best, .int (nI (v + 1))]) hG ⟨_, rfl⟩ ?_
              exact ih (v + 1) _ τ (by omega) (hnext (tv_min_d hb hno)) hfr2
            · rcases hb with ⟨rfl, hbno⟩ | ⟨b, hb80, rfl, hb1, hb2⟩
              · refine tv_istore (vs1 := [.ref (h 0), .int (nI f), .int (nI lt), .int (-1), .int (nI v), .int (nI m)]) hG dX1_findApart_59 (by decide) (Nat.le_of_ble_eq_true rfl) rfl ?_
                refine tv_iload hG dX1_findApart_61 rfl ?_
                refine tv_if_lt (tgt := 79) hG dX1_findApart_63 (by decide) (by omega) ?_
                refine tv_iload_n hG dX1_findApart_66 rfl rfl ?_
                refine tv_zif_lt (tgt := 76) hG dX1_findApart_67 (by decide) (fun _ => ?_) (fun q => absurd q (by decide))
                refine tv_iload hG dX1_findApart_76 rfl ?_
                refine tv_istore_n (vs1 := [.ref (h 0), .int (nI f), .int (nI lt), .int (nI m), .int (nI v), .int (nI m)]) hG dX1_findApart_78 rfl (by decide) (Nat.le_of_ble_eq_true rfl) rfl ?_
                refine tv_iinc (y := nI (v + 1)) (vs1 := [.ref (h 0), .int (nI f), .int (nI lt), .int (nI m), .int (nI (v + 1)), .int (nI m)]) hG dX1_findApart_79 rfl (nI_1 _) (by decide) rfl ?_
                refine tv_goto (tgt := 24) hG dX1_findApart_82 (by decide) ?_
                refine tv_drop (vs1 := [.ref (h 0), .int (nI f), .int (nI lt), .int (nI m), .int (nI (v + 1))]) hG ⟨_, rfl⟩ ?_
                exact ih (v + 1) _ τ (by omega) (hnext (tv_min_a hbno hm80 hm1 hm2)) hfr2
              · refine tv_istore (vs1 := [.ref (h 0), .int (nI f), .int (nI lt), .int (nI b), .int (nI v), .int (nI m)]) hG dX1_findApart_59 (by decide) (Nat.le_of_ble_eq_true rfl) rfl ?_
                refine tv_iload hG dX1_findApart_61 rfl ?_
                refine tv_if_lt (tgt := 79) hG dX1_findApart_63 (by decide) (by omega) ?_
                refine tv_iload_n hG dX1_findApart_66 rfl rfl ?_
                refine tv_if_lt (tgt := 76) hG dX1_findApart_67 (by decide) (by omega) ?_
                refine tv_iload hG dX1_findApart_70 rfl ?_
                refine tv_iload_n hG dX1_findApart_72 rfl rfl ?_
                refine tv_icmp_ge (tgt := 79) hG dX1_findApart_73 (by decide) (by omega) (by omega) (fun c1 => ?_) (fun c1 => ?_)
                · refine tv_iinc (y := nI (v + 1)) (vs1 := [.ref (h 0), .int (nI f), .int (nI lt), .int (nI b), .int (nI (v + 1)), .int (nI m)]) hG dX1_findApart_79 rfl (nI_1 _) (by decide) rfl ?_
                  refine tv_goto (tgt := 24) hG dX1_findApart_82 (by decide) ?_
                  refine tv_drop (vs1 := [.ref (h 0), .int (nI f), .int (nI lt), .int (nI b), .int (nI (v + 1))]) hG ⟨_, rfl⟩ ?_
                  exact ih (v + 1) _ τ (by omega) (hnext (tv_min_c hb80 hb1 hb2 hm2 c1)) hfr2
                · refine tv_iload hG dX1_findApart_76 rfl ?_
                  refine tv_istore_n (vs1 := [.ref (h 0), .int (nI f), .int (nI lt), .int (nI m), .int (nI v), .int (nI m)]) hG dX1_findApart_78 rfl (by decide) (Nat.le_of_ble_eq_true rfl) rfl ?_
                  refine tv_iinc (y := nI (v + 1)) (vs1 := [.ref (h 0), .int (nI f), .int (nI lt), .int (nI m), .int (nI (v + 1)), .int (nI m)]) hG dX1_findApart_79 rfl (nI_1 _) (by decide) rfl ?_
                  refine tv_goto (tgt := 24) hG dX1_findApart_82 (by decide) ?_
                  refine tv_drop (vs1 := [.ref (h 0), .int (nI f), .int (nI lt), .int (nI m), .int (nI (v + 1))]) hG ⟨_, rfl⟩ ?_
                  exact ih (v + 1) _ τ (by omega) (hnext (tv_min_b hb80 hb1 hb2 hm80 hm1 hm2 c1)) hfr2
        exact loop 3 0 (-1) _ (by omega) (tv_Lst_no (fun k q => by omega)) (fun _ _ => rfl)
      · refine tv_iload_n hG dX1_findApart_0 rfl rfl ?_
        refine tv_if_lt (tgt := 17) hG dX1_findApart_1 (by decide) (by omega) ?_
        refine tv_iload_n hG dX1_findApart_4 rfl rfl ?_
        refine tv_iconst (x := nI 4) hG dX1_findApart_5 rfl ?_
        refine tv_icmp_ge (tgt := 17) hG dX1_findApart_6 (by decide) (by omega) (by omega) (fun q => by exfalso; omega) (fun _ => ?_)
        refine tv_aload_n hG dX1_findApart_9 rfl rfl ?_
        refine tv_iload_n hG dX1_findApart_10 rfl rfl ?_
        refine tv_callxI (As := [.int (nI f)]) (st := []) hG (tv_cX_complete_n l D h d σ f hf hGS hcp) q109 q110 q111 q22 q112 (ci := 0) rfl rfl 1 (by decide +kernel) rfl rfl ⟨Nat.le_of_ble_eq_true rfl, Nat.le_of_ble_eq_true rfl⟩ rfl rfl (Nat.le_of_ble_eq_true rfl) dX1_findApart_11 ?_
        refine tv_if_ne (tgt := 19) hG dX1_findApart_14 (by decide) (by omega) (fun q => absurd q (by decide)) (fun _ => ?_)
        refine tv_iconst (x := -1) hG dX1_findApart_17 rfl ?_
        exact hret _ _ _ _ dX1_findApart_18 ⟨tv_Lst_no (fun k q => by obtain ⟨f1, l1, q1, q2, q3, q4, q5, q6⟩ := q; have e : f = f1 := tv_inj (by omega) (by omega) q2; subst e; exact hcp q5), tv_kp_rd hf hGS⟩
    · refine tv_iload_n hG dX1_findApart_0 rfl rfl ?_
      refine tv_if_lt (tgt := 17) hG dX1_findApart_1 (by decide) (by omega) ?_
      refine tv_iload_n hG dX1_findApart_4 rfl rfl ?_
      refine tv_iconst (x := nI 4) hG dX1_findApart_5 rfl ?_
      refine tv_icmp_ge (tgt := 17) hG dX1_findApart_6 (by decide) (by omega) (by omega) (fun q => by exfalso; omega) (fun _ => ?_)
      refine tv_aload_n hG dX1_findApart_9 rfl rfl ?_
      refine tv_iload_n hG dX1_findApart_10 rfl rfl ?_
      refine tv_callxI (As := [.int g]) (st := []) hG (tv_cX_complete_f l D h d σ g hbadf) q109 q110 q111 q22 q112 (ci := 0) rfl rfl 1 (by decide +kernel) rfl rfl ⟨Nat.le_of_ble_eq_true rfl, Nat.le_of_ble_eq_true rfl⟩ rfl rfl (Nat.le_of_ble_eq_true rfl) dX1_findApart_11 ?_
      refine tv_if_ne (tgt := 19) hG dX1_findApart_14 (by decide) (by omega) (fun q => absurd q (by decide)) (fun _ => ?_)
      refine tv_iconst (x := -1) hG dX1_findApart_17 rfl ?_
      exact hret _ _ _ _ dX1_findApart_18 ⟨tv_Lst_no (fun k q => by obtain ⟨f1, l1, q1, q2, q3, q4, q5, q6⟩ := q; exact tv_bad_f hbadf q1 q2), rfl, rfl, rfl⟩
  · refine tv_iload_n hG dX1_findApart_0 rfl rfl ?_
    refine tv_zif_lt (tgt := 17) hG dX1_findApart_1 (by decide) (fun _ => ?_) (fun q => absurd hx0 q)
    refine tv_iconst (x := -1) hG dX1_findApart_17 rfl ?_
    exact hret _ _ _ _ dX1_findApart_18 ⟨tv_Lst_no (fun k q => by obtain ⟨f1, l1, q1, q2, q3, q4, q5, q6⟩ := q; exact tv_bad_r (M := 3) (m := 3) (by decide) (by decide) (Or.inl hx0) (by omega) q4), rfl, rfl, rfl⟩
  · have h4 : nI 4 ≤ x := by
      have h1 := Int32.lt_iff_toInt_lt.mp hx7
      have h2 : (3 : Int32).toInt = 3 := by decide
      have h3 : (nI 4).toInt = 4 := by decide
      rw [Int32.le_iff_toInt_le]; omega
    refine tv_iload_n hG dX1_findApart_0 rfl rfl ?_
    refine tv_zif_lt (tgt := 17) hG dX1_findApart_1 (by decide) (fun q => absurd (Int32.lt_trans hx7 q) (by decide)) (fun _ => ?_)
    refine tv_iload_n hG dX1_findApart_4 rfl rfl ?_
    refine tv_iconst (x := nI 4) hG dX1_findApart_5 rfl ?_
    refine tv_zicmp_ge (tgt := 17) hG dX1_findApart_6 (by decide) (fun _ => ?_) (fun q => absurd h4 q)
    refine tv_iconst (x := -1) hG dX1_findApart_17 rfl ?_
    exact hret _ _ _ _ dX1_findApart_18 ⟨tv_Lst_no (fun k q => by obtain ⟨f1, l1, q1, q2, q3, q4, q5, q6⟩ := q; exact tv_bad_r (M := 3) (m := 3) (by decide) (by decide) (Or.inr hx7) (by omega) q4), rfl, rfl, rfl⟩
end
section
set_option maxRecDepth 100000
/-! WALKS: ThreeValuedModel -/
def tv_isM (σ : tv_M) (t n : Nat → Nat) (lg : Nat) : Prop := σ 22 = t ∧ σ 21 = n ∧ σ 20 0 = lg
theorem tv_isM_to {σ τ : tv_M} {t n : Nat → Nat} {lg : Nat} (h : tv_isM σ t n lg) (hf : ∀ q, q ≠ 23 → τ q = σ q) : tv_isM τ t n lg := ⟨by rw [hf 22 (by decide)]; exact h.1, by rw [hf 21 (by decide)]; exact h.2.1, by rw [hf 20 (by decide)]; exact h.2.2⟩
theorem tv_op_le (t : Nat → Nat) (b : Nat) : ∀ k, tv_op t b k ≤ k + 1 := by
  intro k
  induction k with
  | zero => exact Nat.le_refl _
  | succ k ih =>
    have := tv_ar_le (t (b + k))
    simp only [tv_op]
    omega
theorem tv_op_s (t : Nat → Nat) (b k : Nat) : tv_op t b (k + 1) = tv_op t b k + tv_ar (t (b + k)) - 1 := rfl
def tv_Sk (l : List Nat) (ρ : tv_M) : Prop := ∀ (q v : Nat), l[q]? = some v → ρ 23 (l.length - 1 - q) = v
theorem tv_Sk_push {l : List Nat} {ρ : tv_M} {v c : Nat} (h : tv_Sk l ρ) (hc : c = l.length) : tv_Sk (v :: l) (tv_st ρ 23 c v) := by
  subst hc
  intro q w hq
  cases q with
  | zero =>
    simp only [List.getElem?_cons_zero, Option.some.injEq] at hq
    rw [List.length_cons, show l.length + 1 - 1 - 0 = l.length by omega, tv_st_eq]
    exact hq
  | succ q =>
    simp only [List.getElem?_cons_succ] at hq
    have hlt := (List.getElem?_eq_some_iff.mp hq).1
    rw [List.length_cons, show l.length + 1 - 1 - (q + 1) = l.length - 1 - q by omega, tv_st_j (by omega)]
    exact h q w hq
theorem tv_Sk_top {r : List Nat} {x c : Nat} {ρ : tv_M} {v : Nat} (h : tv_Sk (x :: r) ρ) (hc : c = r.length) : tv_Sk (v :: r) (tv_st ρ 23 c v) := by
  subst hc
  intro q w hq
  cases q with
  | zero =>
    simp only [List.getElem?_cons_zero, Option.some.injEq] at hq
    rw [List.length_cons, show r.length + 1 - 1 - 0 = r.length by omega, tv_st_eq]
    exact hq
  | succ q =>
    simp only [List.getElem?_cons_succ] at hq
    have hlt := (List.getElem?_eq_some_iff.mp hq).1
    have h1 := h (q + 1) w (by simpa using hq)
    rw [List.length_cons] at h1 ⊢
    rw [tv_st_j (by omega)]
    exact h1
theorem tv_Sk_two {r : List Nat} {x y c : Nat} {ρ : tv_M} {v : Nat} (h : tv_Sk (x :: y :: r) ρ) (hc : c = r.length) : tv_Sk (v :: r) (tv_st ρ 23 c v) := by
  subst hc
  intro q w hq
  cases q with
  | zero =>
    simp only [List.getElem?_cons_zero, Option.some.injEq] at hq
    rw [List.length_cons, show r.length + 1 - 1 - 0 = r.length by omega, tv_st_eq]
    exact hq
  | succ q =>
    simp only [List.getElem?_cons_succ] at hq
    have hlt := (List.getElem?_eq_some_iff.mp hq).1
    have h1 := h (q + 2) w (by simpa using hq)
    rw [List.length_cons, List.length_cons] at h1
    rw [List.length_cons, show r.length + 1 - 1 - (q + 1) = r.length + 1 + 1 - 1 - (q + 2) by omega, tv_st_j (by omega)]
    exact h1
set_option maxHeartbeats 4000000 in
theorem tv_cM_complete (l : Launch) (D : va_G) (h : Nat → Nat) (d : Nat → ClassId) (σ : tv_M) (t n : Nat → Nat) (lg : Nat) (g : Int32) (hM : tv_isM σ t n lg) (hGS : tv_GS t n lg) : tv_CI l yX2_complete cX2_complete 5 (some .boolean) ({ frames := 0, cells := 0, slots := 0, locals := 0 } : Room) D (tv_tM d) (tv_wM h d) [.ref (h 20), .int g] σ (fun z τ => tv_pC t n g z ∧ τ = σ) := by
  refine tv_inZ (own := RX2) (by decide) rfl (by simp [Value.category]) (Nat.le_of_ble_eq_true rfl) ?_
  intro G hG hret
  obtain ⟨rfl, rfl, rfl⟩ := hM
  rcases tv_fcase g with ⟨f, hf, rfl⟩ | hbad
  · have hn9 := (hGS.2.1 f hf).1
    have hg := (hGS.2.1 f hf).2
    refine tv_iload_n hG dX2_complete_0 rfl rfl ?_
    refine tv_if_eq (tgt := 11) hG dX2_complete_1 (by decide) (by omega) (fun c1 => ?_) (fun c1 => ?_)
    · refine tv_iconst (x := nI 1) hG dX2_complete_11 rfl ?_
      refine tv_istore_n (vs1 := [.ref (h 20), .int (nI f), .int (nI 1)]) hG dX2_complete_12 rfl (by decide) (Nat.le_of_ble_eq_true rfl) rfl ?_
      refine tv_iconst (x := nI 0) hG dX2_complete_13 rfl ?_
      refine tv_istore_n (vs1 := [.ref (h 20), .int (nI f), .int (nI 1), .int (nI 0)]) hG dX2_complete_14 rfl (by decide) (Nat.le_of_ble_eq_true rfl) rfl ?_
      have loop : ∀ (k i s : Nat), i + k = σ 21 f → s = tv_op (σ 22) (f * 9) i → G 15 [.ref (h 20), .int (nI f), .int (nI s), .int (nI i)] [] σ := by
        intro k
        induction k with
        | zero =>
          intro i s hi hs
          have hle := tv_op_le (σ 22) (f * 9) i
          have ei : i = σ 21 f := by omega
          refine tv_iload_n hG dX2_complete_15 rfl rfl ?_
          refine tv_aload_n hG dX2_complete_16 rfl rfl ?_
          refine tv_gM_21 hG dX2_complete_17 ?_
          refine tv_iload_n hG dX2_complete_20 rfl rfl ?_
          refine tv_lM_21 (v := σ 21 f) hG rfl dX2_complete_21 (by omega) ?_
          refine tv_icmp_ge (tgt := 69) hG dX2_complete_22 (by decide) (by omega) (by omega) (fun _ => ?_) (fun q => by exfalso; omega)
          refine tv_iload_n hG dX2_complete_69 rfl rfl ?_
          refine tv_if_ne (tgt := 77) hG dX2_complete_70 (by decide) (by omega) (fun c2 => ?_) (fun c2 => ?_)
          · refine tv_iconst (x := nI 0) hG dX2_complete_77 rfl ?_
            exact hret _ _ _ _ dX2_complete_78 (by decide) ⟨Or.inr ⟨rfl, fun q => by obtain ⟨q, q1, q2, q3⟩ := q; have e1 : f = q := tv_inj (by omega) (by omega) q2; subst e1; unfold tv_CP at q3; rw [← ei] at q3; omega⟩, rfl⟩
          · refine tv_iconst (x := nI 1) hG dX2_complete_73 rfl ?_
            refine tv_goto (tgt := 78) hG dX2_complete_74 (by decide) ?_
            exact hret _ _ _ _ dX2_complete_78 (by decide) ⟨Or.inl ⟨rfl, f, hf, rfl, by unfold tv_CP; rw [← ei]; omega⟩, rfl⟩
        | succ k ih =>
          intro i s hi hs
          have hle := tv_op_le (σ 22) (f * 9) i
          have h1 := hg i (by omega)
          have h8 := hGS.2.2 (f * 9 + i) (by omega)
          refine tv_iload_n hG dX2_complete_15 rfl rfl ?_
          refine tv_aload_n hG dX2_complete_16 rfl rfl ?_
          refine tv_gM_21 hG dX2_complete_17 ?_
          refine tv_iload_n hG dX2_complete_20 rfl rfl ?_
          refine tv_lM_21 (v := σ 21 f) hG rfl dX2_complete_21 (by omega) ?_
          refine tv_icmp_ge (tgt := 69) hG dX2_complete_22 (by decide) (by omega) (by omega) (fun q => by exfalso; omega) (fun _ => ?_)
          refine tv_aload_n hG dX2_complete_25 rfl rfl ?_
          refine tv_gM_22 hG dX2_complete_26 ?_
          refine tv_bipush (x := nI 9) hG dX2_complete_29 rfl ?_
          refine tv_iload_n hG dX2_complete_31 rfl rfl ?_
          refine tv_imul hG dX2_complete_32 ?_
          refine tv_iload_n hG dX2_complete_33 rfl rfl ?_
          refine tv_iadd hG dX2_complete_34 ?_
          refine tv_lM_22 (v := σ 22 (f * 9 + i)) hG (by rw [Nat.mul_comm]) dX2_complete_35 (by omega) ?_
          refine tv_istore (vs1 := [.ref (h 20), .int (nI f), .int (nI s), .int (nI i), .int (nI (σ 22 (f * 9 + i)))]) hG dX2_complete_36 (by decide) (Nat.le_of_ble_eq_true rfl) rfl ?_
          refine tv_iload hG dX2_complete_38 rfl ?_
          refine tv_if_ne (tgt := 47) hG dX2_complete_40 (by decide) (by omega) (fun c3 => ?_) (fun c3 => ?_)
          · refine tv_iload hG dX2_complete_47 rfl ?_
            refine tv_iconst (x := nI 3) hG dX2_complete_49 rfl ?_
            refine tv_icmp_gt (tgt := 59) hG dX2_complete_50 (by decide) (by omega) (by omega) (fun c4 => ?_) (fun c4 => ?_)
            · refine tv_iload_n hG dX2_complete_59 rfl rfl ?_
              refine tv_iconst (x := nI 1) hG dX2_complete_60 rfl ?_
              refine tv_isub hG dX2_complete_61 (by omega) ?_
              refine tv_istore_n (vs1 := [.ref (h 20), .int (nI f), .int (nI (s - 1)), .int (nI i), .int (nI (σ 22 (f * 9 + i)))]) hG dX2_complete_62 rfl (by decide) (Nat.le_of_ble_eq_true rfl) rfl ?_
              refine tv_iinc (y := nI (i + 1)) (vs1 := [.ref (h 20), .int (nI f), .int (nI (s - 1)), .int (nI (i + 1)), .int (nI (σ 22 (f * 9 + i)))]) hG dX2_complete_63 rfl (nI_1 _) (by decide) rfl ?_
              refine tv_goto (tgt := 15) hG dX2_complete_66 (by decide) ?_
              refine tv_drop (vs1 := [.ref (h 20), .int (nI f), .int (nI (s - 1)), .int (nI (i + 1))]) hG ⟨_, rfl⟩ ?_
              exact ih (i + 1) _ (by omega) (by rw [tv_op_s]; unfold tv_ar; (repeat' split) <;> omega)
            · refine tv_iload_n hG dX2_complete_53 rfl rfl ?_
              refine tv_iconst (x := nI 1) hG dX2_complete_54 rfl ?_
              refine tv_iadd hG dX2_complete_55 ?_
              refine tv_goto (tgt := 62) hG dX2_complete_56 (by decide) ?_
              refine tv_istore_n (vs1 := [.ref (h 20), .int (nI f), .int (nI (s + 1)), .int (nI i), .int (nI (σ 22 (f * 9 + i)))]) hG dX2_complete_62 rfl (by decide) (Nat.le_of_ble_eq_true rfl) rfl ?_
              refine tv_iinc (y := nI (i + 1)) (vs1 := [.ref (h 20), .int (nI f), .int (nI (s + 1)), .int (nI (i + 1)), .int (nI (σ 22 (f * 9 + i)))]) hG dX2_complete_63 rfl (nI_1 _) (by decide) rfl ?_
              refine tv_goto (tgt := 15) hG dX2_complete_66 (by decide) ?_
              refine tv_drop (vs1 := [.ref (h 20), .int (nI f), .int (nI (s + 1)), .int (nI (i + 1))]) hG ⟨_, rfl⟩ ?_
              exact ih (i + 1) _ (by omega) (by rw [tv_op_s]; unfold tv_ar; (repeat' split) <;> omega)
          · refine tv_iload_n hG dX2_complete_43 rfl rfl ?_
            refine tv_goto (tgt := 62) hG dX2_complete_44 (by decide) ?_
            refine tv_istore_n (vs1 := [.ref (h 20), .int (nI f), .int (nI s), .int (nI i), .int (nI (σ 22 (f * 9 + i)))]) hG dX2_complete_62 rfl (by decide) (Nat.le_of_ble_eq_true rfl) rfl ?_
            refine tv_iinc (y := nI (i + 1)) (vs1 := [.ref (h 20), .int (nI f), .int (nI s), .int (nI (i + 1)), .int (nI (σ 22 (f * 9 + i)))]) hG dX2_complete_63 rfl (nI_1 _) (by decide) rfl ?_
            refine tv_goto (tgt := 15) hG dX2_complete_66 (by decide) ?_
            refine tv_drop (vs1 := [.ref (h 20), .int (nI f), .int (nI s), .int (nI (i + 1))]) hG ⟨_, rfl⟩ ?_
            exact ih (i + 1) _ (by omega) (by rw [tv_op_s]; unfold tv_ar; (repeat' split) <;> omega)
      exact loop (σ 21 f) 0 1 (by omega) rfl
    · refine tv_iload_n hG dX2_complete_4 rfl rfl ?_
      refine tv_iconst (x := nI 1) hG dX2_complete_5 rfl ?_
      refine tv_icmp_eq (tgt := 11) hG dX2_complete_6 (by decide) (by omega) (by omega) (fun _ => ?_) (fun q => by exfalso; omega)
      refine tv_iconst (x := nI 1) hG dX2_complete_11 rfl ?_
      refine tv_istore_n (vs1 := [.ref (h 20), .int (nI f), .int (nI 1)]) hG dX2_complete_12 rfl (by decide) (Nat.le_of_ble_eq_true rfl) rfl ?_
      refine tv_iconst (x := nI 0) hG dX2_complete_13 rfl ?_
      refine tv_istore_n (vs1 := [.ref (h 20), .int (nI f), .int (nI 1), .int (nI 0)]) hG dX2_complete_14 rfl (by decide) (Nat.le_of_ble_eq_true rfl) rfl ?_
      have loop : ∀ (k i s : Nat), i + k = σ 21 f → s = tv_op (σ 22) (f * 9) i → G 15 [.ref (h 20), .int (nI f), .int (nI s), .int (nI i)] [] σ := by
        intro k
        induction k with
        | zero =>
          intro i s hi hs
          have hle := tv_op_le (σ 22) (f * 9) i
          have ei : i = σ 21 f := by omega
          refine tv_iload_n hG dX2_complete_15 rfl rfl ?_
          refine tv_aload_n hG dX2_complete_16 rfl rfl ?_
          refine tv_gM_21 hG dX2_complete_17 ?_
          refine tv_iload_n hG dX2_complete_20 rfl rfl ?_
          refine tv_lM_21 (v := σ 21 f) hG rfl dX2_complete_21 (by omega) ?_
          refine tv_icmp_ge (tgt := 69) hG dX2_complete_22 (by decide) (by omega) (by omega) (fun _ => ?_) (fun q => by exfalso; omega)
          refine tv_iload_n hG dX2_complete_69 rfl rfl ?_
          refine tv_if_ne (tgt := 77) hG dX2_complete_70 (by decide) (by omega) (fun c5 => ?_) (fun c5 => ?_)
          · refine tv_iconst (x := nI 0) hG dX2_complete_77 rfl ?_
            exact hret _ _ _ _ dX2_complete_78 (by decide) ⟨Or.inr ⟨rfl, fun q => by obtain ⟨q, q1, q2, q3⟩ := q; have e1 : f = q := tv_inj (by omega) (by omega) q2; subst e1; unfold tv_CP at q3; rw [← ei] at q3; omega⟩, rfl⟩
          · refine tv_iconst (x := nI 1) hG dX2_complete_73 rfl ?_
            refine tv_goto (tgt := 78) hG dX2_complete_74 (by decide) ?_
            exact hret _ _ _ _ dX2_complete_78 (by decide) ⟨Or.inl ⟨rfl, f, hf, rfl, by unfold tv_CP; rw [← ei]; omega⟩, rfl⟩
        | succ k ih =>
          intro i s hi hs
          have hle := tv_op_le (σ 22) (f * 9) i
          have h1 := hg i (by omega)
          have h8 := hGS.2.2 (f * 9 + i) (by omega)
          refine tv_iload_n hG dX2_complete_15 rfl rfl ?_
          refine tv_aload_n hG dX2_complete_16 rfl rfl ?_
          refine tv_gM_21 hG dX2_complete_17 ?_
          refine tv_iload_n hG dX2_complete_20 rfl rfl ?_
          refine tv_lM_21 (v := σ 21 f) hG rfl dX2_complete_21 (by omega) ?_
          refine tv_icmp_ge (tgt := 69) hG dX2_complete_22 (by decide) (by omega) (by omega) (fun q => by exfalso; omega) (fun _ => ?_)
          refine tv_aload_n hG dX2_complete_25 rfl rfl ?_
          refine tv_gM_22 hG dX2_complete_26 ?_
          refine tv_bipush (x := nI 9) hG dX2_complete_29 rfl ?_
          refine tv_iload_n hG dX2_complete_31 rfl rfl ?_
          refine tv_imul hG dX2_complete_32 ?_
          refine tv_iload_n hG dX2_complete_33 rfl rfl ?_
          refine tv_iadd hG dX2_complete_34 ?_
          refine tv_lM_22 (v := σ 22 (f * 9 + i)) hG (by rw [Nat.mul_comm]) dX2_complete_35 (by omega) ?_
          refine tv_istore (vs1 := [.ref (h 20), .int (nI f), .int (nI s), .int (nI i), .int (nI (σ 22 (f * 9 + i)))]) hG dX2_complete_36 (by decide) (Nat.le_of_ble_eq_true rfl) rfl ?_
          refine tv_iload hG dX2_complete_38 rfl ?_
          refine tv_if_ne (tgt := 47) hG dX2_complete_40 (by decide) (by omega) (fun c6 => ?_) (fun c6 => ?_)
          · refine tv_iload hG dX2_complete_47 rfl ?_
            refine tv_iconst (x := nI 3) hG dX2_complete_49 rfl ?_
            refine tv_icmp_gt (tgt := 59) hG dX2_complete_50 (by decide) (by omega) (by omega) (fun c7 => ?_) (fun c7 => ?_)
            · refine tv_iload_n hG dX2_complete_59 rfl rfl ?_
              refine tv_iconst (x := nI 1) hG dX2_complete_60 rfl ?_
              refine tv_isub hG dX2_complete_61 (by omega) ?_
              refine tv_istore_n (vs1 := [.ref (h 20), .int (nI f), .int (nI (s - 1)), .int (nI i), .int (nI (σ 22 (f * 9 + i)))]) hG dX2_complete_62 rfl (by decide) (Nat.le_of_ble_eq_true rfl) rfl ?_
              refine tv_iinc (y := nI (i + 1)) (vs1 := [.ref (h 20), .int (nI f), .int (nI (s - 1)), .int (nI (i + 1)), .int (nI (σ 22 (f * 9 + i)))]) hG dX2_complete_63 rfl (nI_1 _) (by decide) rfl ?_
              refine tv_goto (tgt := 15) hG dX2_complete_66 (by decide) ?_
              refine tv_drop (vs1 := [.ref (h 20), .int (nI f), .int (nI (s - 1)), .int (nI (i + 1))]) hG ⟨_, rfl⟩ ?_
              exact ih (i + 1) _ (by omega) (by rw [tv_op_s]; unfold tv_ar; (repeat' split) <;> omega)
            · refine tv_iload_n hG dX2_complete_53 rfl rfl ?_
              refine tv_iconst (x := nI 1) hG dX2_complete_54 rfl ?_
              refine tv_iadd hG dX2_complete_55 ?_
              refine tv_goto (tgt := 62) hG dX2_complete_56 (by decide) ?_
              refine tv_istore_n (vs1 := [.ref (h 20), .int (nI f), .int (nI (s + 1)), .int (nI i), .int (nI (σ 22 (f * 9 + i)))]) hG dX2_complete_62 rfl (by decide) (Nat.le_of_ble_eq_true rfl) rfl ?_
              refine tv_iinc (y := nI (i + 1)) (vs1 := [.ref (h 20), .int (nI f), .int (nI (s + 1)), .int (nI (i + 1)), .int (nI (σ 22 (f * 9 + i)))]) hG dX2_complete_63 rfl (nI_1 _) (by decide) rfl ?_
              refine tv_goto (tgt := 15) hG dX2_complete_66 (by decide) ?_
              refine tv_drop (vs1 := [.ref (h 20), .int (nI f), .int (nI (s + 1)), .int (nI (i + 1))]) hG ⟨_, rfl⟩ ?_
              exact ih (i + 1) _ (by omega) (by rw [tv_op_s]; unfold tv_ar; (repeat' split) <;> omega)
          · refine tv_iload_n hG dX2_complete_43 rfl rfl ?_
            refine tv_goto (tgt := 62) hG dX2_complete_44 (by decide) ?_
            refine tv_istore_n (vs1 := [.ref (h 20), .int (nI f), .int (nI s), .int (nI i), .int (nI (σ 22 (f * 9 + i)))]) hG dX2_complete_62 rfl (by decide) (Nat.le_of_ble_eq_true rfl) rfl ?_
            refine tv_iinc (y := nI (i + 1)) (vs1 := [.ref (h 20), .int (nI f), .int (nI s), .int (nI (i + 1)), .int (nI (σ 22 (f * 9 + i)))]) hG dX2_complete_63 rfl (nI_1 _) (by decide) rfl ?_
            refine tv_goto (tgt := 15) hG dX2_complete_66 (by decide) ?_
            refine tv_drop (vs1 := [.ref (h 20), .int (nI f), .int (nI s), .int (nI (i + 1))]) hG ⟨_, rfl⟩ ?_
            exact ih (i + 1) _ (by omega) (by rw [tv_op_s]; unfold tv_ar; (repeat' split) <;> omega)
      exact loop (σ 21 f) 0 1 (by omega) rfl
  · refine tv_iload_n hG dX2_complete_0 rfl rfl ?_
    refine tv_zif_eq (tgt := 11) hG dX2_complete_1 (by decide) (fun q => absurd (Or.inl q) hbad) (fun _ => ?_)
    refine tv_iload_n hG dX2_complete_4 rfl rfl ?_
    refine tv_iconst (x := nI 1) hG dX2_complete_5 rfl ?_
    refine tv_zicmp_eq (tgt := 11) hG dX2_complete_6 (by decide) (fun q => absurd (Or.inr (by rw [q]; decide)) hbad) (fun _ => ?_)
    refine tv_iconst (x := nI 0) hG dX2_complete_9 rfl ?_
    exact hret _ _ _ _ dX2_complete_10 (by decide) ⟨Or.inr ⟨rfl, fun q => by obtain ⟨q, q1, q2, q3⟩ := q; exact tv_bad_f hbad q1 q2⟩, rfl⟩
theorem tv_cM_complete_t (l : Launch) (D : va_G) (h : Nat → Nat) (d : Nat → ClassId) (σ : tv_M) (t n : Nat → Nat) (lg f : Nat) (hM : tv_isM σ t n lg) (hGS : tv_GS t n lg) (hf : f < 2) (hcp : tv_CP t n f) : tv_CI l yX2_complete cX2_complete 5 (some .boolean) ({ frames := 0, cells := 0, slots := 0, locals := 0 } : Room) D (tv_tM d) (tv_wM h d) [.ref (h 20), .int (nI f)] σ (fun z τ => z = nI 1 ∧ τ = σ) := by
  have hc := tv_cM_complete l D h d σ t n lg (nI f) hM hGS
  have e : (fun z τ => tv_pC t n (nI f) z ∧ τ = σ) = (fun (z : Int32) (τ : tv_M) => z = nI 1 ∧ τ = σ) := by
    funext z τ
    refine propext (and_congr ⟨fun q => tv_Bl_uni q (Or.inl ⟨rfl, f, hf, rfl, hcp⟩), fun q => by rw [q]; exact Or.inl ⟨rfl, f, hf, rfl, hcp⟩⟩ Iff.rfl)
  rw [e] at hc
  exact hc
theorem tv_cM_complete_n (l : Launch) (D : va_G) (h : Nat → Nat) (d : Nat → ClassId) (σ : tv_M) (t n : Nat → Nat) (lg : Nat) (g : Int32) (hM : tv_isM σ t n lg) (hGS : tv_GS t n lg) (hcp : ¬ ∃ f, f < 2 ∧ g = nI f ∧ tv_CP t n f) : tv_CI l yX2_complete cX2_complete 5 (some .boolean) ({ frames := 0, cells := 0, slots := 0, locals := 0 } : Room) D (tv_tM d) (tv_wM h d) [.ref (h 20), .int g] σ (fun z τ => z = nI 0 ∧ τ = σ) := by
  have hc := tv_cM_complete l D h d σ t n lg g hM hGS
  have e : (fun z τ => tv_pC t n g z ∧ τ = σ) = (fun (z : Int32) (τ : tv_M) => z = nI 0 ∧ τ = σ) := by
    funext z τ
    refine propext (and_congr ⟨fun q => tv_Bl_uni q (Or.inr ⟨rfl, hcp⟩), fun q => by rw [q]; exact Or.inr ⟨rfl, hcp⟩⟩ Iff.rfl)
  rw [e] at hc
  exact hc
set_option maxHeartbeats 4000000 in
theorem tv_cM_feed (l : Launch) (D : va_G) (h : Nat → Nat) (d : Nat → ClassId) (σ : tv_M) (t n : Nat → Nat) (lg : Nat) (g x : Int32) (hM : tv_isM σ t n lg) (hGS : tv_GS t n lg) : tv_CI l yX2_feed cX2_feed 3 (some .int) ({ frames := 1, cells := 0, slots := 0, locals := 24 } : Room) D (tv_tM d) (tv_wM h d) [.ref (h 20), .int g, .int x] σ (fun z τ => tv_pFeed t n g x z (τ 22) (τ 21) ∧ τ 20 0 = lg) := by
  refine tv_inI (own := RX2) (by decide) rfl (by simp [Value.category]) (Nat.le_of_ble_eq_true rfl) ?_
  intro G hG hret
  obtain ⟨rfl, rfl, rfl⟩ := hM
  rcases tv_fcase g with ⟨f, hf, rfl⟩ | hbad
  · have hn9 := (hGS.2.1 f hf).1
    rcases tv_rcase x 7 7 (by decide) with ⟨tk, htk, rfl⟩ | hx0 | hx7
    · by_cases hcp : tv_CP (σ 22) (σ 21) f
      · refine tv_iload_n hG dX2_feed_0 rfl rfl ?_
        refine tv_if_eq (tgt := 9) hG dX2_feed_1 (by decide) (by omega) (fun c1 => ?_) (fun c1 => ?_)
        · refine tv_iload_n hG dX2_feed_9 rfl rfl ?_
          refine tv_if_lt (tgt := 38) hG dX2_feed_10 (by decide) (by omega) ?_
          refine tv_iload_n hG dX2_feed_13 rfl rfl ?_
          refine tv_bipush (x := nI 7) hG dX2_feed_14 rfl ?_
          refine tv_icmp_gt (tgt := 38) hG dX2_feed_16 (by decide) (by omega) (by omega) (fun q => by exfalso; omega) (fun _ => ?_)
          refine tv_aload_n hG dX2_feed_19 rfl rfl ?_
          refine tv_iload_n hG dX2_feed_20 rfl rfl ?_
          refine tv_callxI (As := [.int (nI f)]) (st := []) hG (tv_cM_complete_t l D h d σ (σ 22) (σ 21) (σ 20 0) f ⟨rfl, rfl, rfl⟩ hGS hf hcp) q267 q268 q269 q23 q270 (ci := 1) rfl rfl 1 (by decide +kernel) rfl rfl ⟨Nat.le_of_ble_eq_true rfl, Nat.le_of_ble_eq_true rfl⟩ rfl rfl (Nat.le_of_ble_eq_true rfl) dX2_feed_21 ?_
          refine tv_if_ne (tgt := 38) hG dX2_feed_24 (by decide) (by omega) (fun _ => ?_) (fun q => absurd q (by decide))
          refine tv_iconst (x := -1) hG dX2_feed_38 rfl ?_
          exact hret _ _ _ _ dX2_feed_39 ⟨Or.inr ⟨fun q => by obtain ⟨f1, t1, q1, q2, q3, q4, q5, q6⟩ := q; have e1 : f = f1 := tv_inj (by omega) (by omega) q2; subst e1; exact q6 hcp, rfl, rfl, rfl⟩, rfl⟩
        · refine tv_iload_n hG dX2_feed_4 rfl rfl ?_
          refine tv_iconst (x := nI 1) hG dX2_feed_5 rfl ?_
          refine tv_icmp_ne (tgt := 38) hG dX2_feed_6 (by decide) (by omega) (by omega) (fun q => by exfalso; omega) (fun _ => ?_)
          refine tv_iload_n hG dX2_feed_9 rfl rfl ?_
          refine tv_if_lt (tgt := 38) hG dX2_feed_10 (by decide) (by omega) ?_
          refine tv_iload_n hG dX2_feed_13 rfl rfl ?_
          refine tv_bipush (x := nI 7) hG dX2_feed_14 rfl ?_
          refine tv_icmp_gt (tgt := 38) hG dX2_feed_16 (by decide) (by omega) (by omega) (fun q => by exfalso; omega) (fun _ => ?_)
          refine tv_aload_n hG dX2_feed_19 rfl rfl ?_
          refine tv_iload_n hG dX2_feed_20 rfl rfl ?_
          refine tv_callxI (As := [.int (nI f)]) (st := []) hG (tv_cM_complete_t l D h d σ (σ 22) (σ 21) (σ 20 0) f ⟨rfl, rfl, rfl⟩ hGS hf hcp) q267 q268 q269 q23 q270 (ci := 1) rfl rfl 1 (by decide +kernel) rfl rfl ⟨Nat.le_of_ble_eq_true rfl, Nat.le_of_ble_eq_true rfl⟩ rfl rfl (Nat.le_of_ble_eq_true rfl) dX2_feed_21 ?_
          refine tv_if_ne (tgt := 38) hG dX2_feed_24 (by decide) (by omega) (fun _ => ?_) (fun q => absurd q (by decide))
          refine tv_iconst (x := -1) hG dX2_feed_38 rfl ?_
          exact hret _ _ _ _ dX2_feed_39 ⟨Or.inr ⟨fun q => by obtain ⟨f1, t1, q1, q2, q3, q4, q5, q6⟩ := q; have e1 : f = f1 := tv_inj (by omega) (by omega) q2; subst e1; exact q6 hcp, rfl, rfl, rfl⟩, rfl⟩
      · refine tv_iload_n hG dX2_feed_0 rfl rfl ?_
        refine tv_if_eq (tgt := 9) hG dX2_feed_1 (by decide) (by omega) (fun c2 => ?_) (fun c2 => ?_)
        · refine tv_iload_n hG dX2_feed_9 rfl rfl ?_
          refine tv_if_lt (tgt := 38) hG dX2_feed_10 (by decide) (by omega) ?_
          refine tv_iload_n hG dX2_feed_13 rfl rfl ?_
          refine tv_bipush (x := nI 7) hG dX2_feed_14 rfl ?_
          refine tv_icmp_gt (tgt := 38) hG dX2_feed_16 (by decide) (by omega) (by omega) (fun q => by exfalso; omega) (fun _ => ?_)
          refine tv_aload_n hG dX2_feed_19 rfl rfl ?_
          refine tv_iload_n hG dX2_feed_20 rfl rfl ?_
          refine tv_callxI (As := [.int (nI f)]) (st := []) hG (tv_cM_complete_n l D h d σ (σ 22) (σ 21) (σ 20 0) (nI f) ⟨rfl, rfl, rfl⟩ hGS (fun q => by obtain ⟨q, q1, q2, q3⟩ := q; have e1 : f = q := tv_inj (by omega) (by omega) q2; subst e1; exact hcp q3)) q267 q268 q269 q23 q270 (ci := 1) rfl rfl 1 (by decide +kernel) rfl rfl ⟨Nat.le_of_ble_eq_true rfl, Nat.le_of_ble_eq_true rfl⟩ rfl rfl (Nat.le_of_ble_eq_true rfl) dX2_feed_21 ?_
          refine tv_if_ne (tgt := 38) hG dX2_feed_24 (by decide) (by omega) (fun q => absurd q (by decide)) (fun _ => ?_)
          refine tv_aload_n hG dX2_feed_27 rfl rfl ?_
          refine tv_gM_21 hG dX2_feed_28 ?_
          refine tv_iload_n hG dX2_feed_31 rfl rfl ?_
          refine tv_lM_21 (v := σ 21 f) hG rfl dX2_feed_32 (by omega) ?_
          refine tv_bipush (x := nI 9) hG dX2_feed_33 rfl ?_
          refine tv_icmp_lt (tgt := 40) hG dX2_feed_35 (by decide) (by omega) (by omega) (fun c3 => ?_) (fun c3 => ?_)
          · refine tv_aload_n hG dX2_feed_40 rfl rfl ?_
            refine tv_gM_22 hG dX2_feed_41 ?_
            refine tv_bipush (x := nI 9) hG dX2_feed_44 rfl ?_
            refine tv_iload_n hG dX2_feed_46 rfl rfl ?_
            refine tv_imul hG dX2_feed_47 ?_
            refine tv_aload_n hG dX2_feed_48 rfl rfl ?_
            refine tv_gM_21 hG dX2_feed_49 ?_
            refine tv_iload_n hG dX2_feed_52 rfl rfl ?_
            refine tv_lM_21 (v := σ 21 f) hG rfl dX2_feed_53 (by omega) ?_
            refine tv_iadd hG dX2_feed_54 ?_
            refine tv_iload_n hG dX2_feed_55 rfl rfl ?_
            refine tv_sM_22 hG dX2_feed_56 (by omega) ?_
            refine tv_aload_n hG dX2_feed_57 rfl rfl ?_
            refine tv_gM_21 hG dX2_feed_58 ?_
            refine tv_iload_n hG dX2_feed_61 rfl rfl ?_
            refine tv_dup2 hG dX2_feed_62 rfl rfl ?_
            refine tv_lM_21 (v := σ 21 f) hG (by simp [tv_st]) dX2_feed_63 (by omega) ?_
            refine tv_iconst (x := nI 1) hG dX2_feed_64 rfl ?_
            refine tv_iadd hG dX2_feed_65 ?_
            refine tv_sM_21 hG dX2_feed_66 (by omega) ?_
            refine tv_aload_n hG dX2_feed_67 rfl rfl ?_
            refine tv_gM_21 hG dX2_feed_68 ?_
            refine tv_iload_n hG dX2_feed_71 rfl rfl ?_
            refine tv_lM_21 (v := (σ 21 f) + 1) hG (by simp [tv_st]) dX2_feed_72 (by omega) ?_
            refine hret _ _ _ _ dX2_feed_73 ⟨Or.inl ⟨f, tk, hf, rfl, htk, rfl, by omega, hcp, rfl, ?_, ?_⟩, rfl⟩
            · rw [tv_st_k (by decide)]; funext j; simp only [tv_st, tv_upd, Nat.mul_comm 9 f]; simp
            · funext j; simp only [tv_st, tv_upd]; simp
          · refine tv_iconst (x := -1) hG dX2_feed_38 rfl ?_
            exact hret _ _ _ _ dX2_feed_39 ⟨Or.inr ⟨fun q => by obtain ⟨f1, t1, q1, q2, q3, q4, q5, q6⟩ := q; have e1 : f = f1 := tv_inj (by omega) (by omega) q2; subst e1; omega, rfl, rfl, rfl⟩, rfl⟩
        · refine tv_iload_n hG dX2_feed_4 rfl rfl ?_
          refine tv_iconst (x := nI 1) hG dX2_feed_5 rfl ?_
          refine tv_icmp_ne (tgt := 38) hG dX2_feed_6 (by decide) (by omega) (by omega) (fun q => by exfalso; omega) (fun _ => ?_)
          refine tv_iload_n hG dX2_feed_9 rfl rfl ?_
          refine tv_if_lt (tgt := 38) hG dX2_feed_10 (by decide) (by omega) ?_
          refine tv_iload_n hG dX2_feed_13 rfl rfl ?_
          refine tv_bipush (x := nI 7) hG dX2_feed_14 rfl ?_
          refine tv_icmp_gt (tgt := 38) hG dX2_feed_16 (by decide) (by omega) (by omega) (fun q => by exfalso; omega) (fun _ => ?_)
          refine tv_aload_n hG dX2_feed_19 rfl rfl ?_
          refine tv_iload_n hG dX2_feed_20 rfl rfl ?_
          refine tv_callxI (As := [.int (nI f)]) (st := []) hG (tv_cM_complete_n l D h d σ (σ 22) (σ 21) (σ 20 0) (nI f) ⟨rfl, rfl, rfl⟩ hGS (fun q => by obtain ⟨q, q1, q2, q3⟩ := q; have e1 : f = q := tv_inj (by omega) (by omega) q2; subst e1; exact hcp q3)) q267 q268 q269 q23 q270 (ci := 1) rfl rfl 1 (by decide +kernel) rfl rfl ⟨Nat.le_of_ble_eq_true rfl, Nat.le_of_ble_eq_true rfl⟩ rfl rfl (Nat.le_of_ble_eq_true rfl) dX2_feed_21 ?_
          refine tv_if_ne (tgt := 38) hG dX2_feed_24 (by decide) (by omega) (fun q => absurd q (by decide)) (fun _ => ?_)
          refine tv_aload_n hG dX2_feed_27 rfl rfl ?_
          refine tv_gM_21 hG dX2_feed_28 ?_
          refine tv_iload_n hG dX2_feed_31 rfl rfl ?_
          refine tv_lM_21 (v := σ 21 f) hG rfl dX2_feed_32 (by omega) ?_
          refine tv_bipush (x := nI 9) hG dX2_feed_33 rfl ?_
          refine tv_icmp_lt (tgt := 40) hG dX2_feed_35 (by decide) (by omega) (by omega) (fun c4 => ?_) (fun c4 => ?_)
          · refine tv_aload_n hG dX2_feed_40 rfl rfl ?_
            refine tv_gM_22 hG dX2_feed_41 ?_
            refine tv_bipush (x := nI 9) hG dX2_feed_44 rfl ?_
            refine tv_iload_n hG dX2_feed_46 rfl rfl ?_
            refine tv_imul hG dX2_feed_47 ?_
            refine tv_aload_n hG dX2_feed_48 rfl rfl ?_
            refine tv_gM_21 hG dX2_feed_49 ?_
            refine tv_iload_n hG dX2_feed_52 rfl rfl ?_
            refine tv_lM_21 (v := σ 21 f) hG rfl dX2_feed_53 (by omega) ?_
            refine tv_iadd hG dX2_feed_54 ?_
            refine tv_iload_n hG dX2_feed_55 rfl rfl ?_
            refine tv_sM_22 hG dX2_feed_56 (by omega) ?_
            refine tv_aload_n hG dX2_feed_57 rfl rfl ?_
            refine tv_gM_21 hG dX2_feed_58 ?_
            refine tv_iload_n hG dX2_feed_61 rfl rfl ?_
            refine tv_dup2 hG dX2_feed_62 rfl rfl ?_
            refine tv_lM_21 (v := σ 21 f) hG (by simp [tv_st]) dX2_feed_63 (by omega) ?_
            refine tv_iconst (x := nI 1) hG dX2_feed_64 rfl ?_
            refine tv_iadd hG dX2_feed_65 ?_
            refine tv_sM_21 hG dX2_feed_66 (by omega) ?_
            refine tv_aload_n hG dX2_feed_67 rfl rfl ?_
            refine tv_gM_21 hG dX2_feed_68 ?_
            refine tv_iload_n hG dX2_feed_71 rfl rfl ?_
            refine tv_lM_21 (v := (σ 21 f) + 1) hG (by simp [tv_st]) dX2_feed_72 (by omega) ?_
            refine hret _ _ _ _ dX2_feed_73 ⟨Or.inl ⟨f, tk, hf, rfl, htk, rfl, by omega, hcp, rfl, ?_, ?_⟩, rfl⟩
            · rw [tv_st_k (by decide)]; funext j; simp only [tv_st, tv_upd, Nat.mul_comm 9 f]; simp
            · funext j; simp only [tv_st, tv_upd]; simp
          · refine tv_iconst (x := -1) hG dX2_feed_38 rfl ?_
            exact hret _ _ _ _ dX2_feed_39 ⟨Or.inr ⟨fun q => by obtain ⟨f1, t1, q1, q2, q3, q4, q5, q6⟩ := q; have e1 : f = f1 := tv_inj (by omega) (by omega) q2; subst e1; omega, rfl, rfl, rfl⟩, rfl⟩
    · refine tv_iload_n hG dX2_feed_0 rfl rfl ?_
      refine tv_if_eq (tgt := 9) hG dX2_feed_1 (by decide) (by omega) (fun c5 => ?_) (fun c5 => ?_)
      · refine tv_iload_n hG dX2_feed_9 rfl rfl ?_
        refine tv_zif_lt (tgt := 38) hG dX2_feed_10 (by decide) (fun _ => ?_) (fun q => absurd hx0 q)
        refine tv_iconst (x := -1) hG dX2_feed_38 rfl ?_
        exact hret _ _ _ _ dX2_feed_39 ⟨Or.inr ⟨fun q => by obtain ⟨f1, t1, q1, q2, q3, q4, q5, q6⟩ := q; exact tv_bad_r (M := 7) (m := 7) (by decide) (by decide) (Or.inl hx0) q3 q4, rfl, rfl, rfl⟩, rfl⟩
      · refine tv_iload_n hG dX2_feed_4 rfl rfl ?_
        refine tv_iconst (x := nI 1) hG dX2_feed_5 rfl ?_
        refine tv_icmp_ne (tgt := 38) hG dX2_feed_6 (by decide) (by omega) (by omega) (fun q => by exfalso; omega) (fun _ => ?_)
        refine tv_iload_n hG dX2_feed_9 rfl rfl ?_
        refine tv_zif_lt (tgt := 38) hG dX2_feed_10 (by decide) (fun _ => ?_) (fun q => absurd hx0 q)
        refine tv_iconst (x := -1) hG dX2_feed_38 rfl ?_
        exact hret _ _ _ _ dX2_feed_39 ⟨Or.inr ⟨fun q => by obtain ⟨f1, t1, q1, q2, q3, q4, q5, q6⟩ := q; exact tv_bad_r (M := 7) (m := 7) (by decide) (by decide) (Or.inl hx0) q3 q4, rfl, rfl, rfl⟩, rfl⟩
    · refine tv_iload_n hG dX2_feed_0 rfl rfl ?_
      refine tv_if_eq (tgt := 9) hG dX2_feed_1 (by decide) (by omega) (fun c6 => ?_) (fun c6 => ?_)
      · refine tv_iload_n hG dX2_feed_9 rfl rfl ?_
        refine tv_zif_lt (tgt := 38) hG dX2_feed_10 (by decide) (fun q => absurd (Int32.lt_trans hx7 q) (by decide)) (fun _ => ?_)
        refine tv_iload_n hG dX2_feed_13 rfl rfl ?_
        refine tv_bipush (x := nI 7) hG dX2_feed_14 rfl ?_
        refine tv_zicmp_gt (tgt := 38) hG dX2_feed_16 (by decide) (fun _ => ?_) (fun q => absurd (by rw [tv_n7]; exact hx7) q)
        refine tv_iconst (x := -1) hG dX2_feed_38 rfl ?_
        exact hret _ _ _ _ dX2_feed_39 ⟨Or.inr ⟨fun q => by obtain ⟨f1, t1, q1, q2, q3, q4, q5, q6⟩ := q; exact tv_bad_r (M := 7) (m := 7) (by decide) (by decide) (Or.inr hx7) q3 q4, rfl, rfl, rfl⟩, rfl⟩
      · refine tv_iload_n hG dX2_feed_4 rfl rfl ?_
        refine tv_iconst (x := nI 1) hG dX2_feed_5 rfl ?_
        refine tv_icmp_ne (tgt := 38) hG dX2_feed_6 (by decide) (by omega) (by omega) (fun q => by exfalso; omega) (fun _ => ?_)
        refine tv_iload_n hG dX2_feed_9 rfl rfl ?_
        refine tv_zif_lt (tgt := 38) hG dX2_feed_10 (by decide) (fun q => absurd (Int32.lt_trans hx7 q) (by decide)) (fun _ => ?_)
        refine tv_iload_n hG dX2_feed_13 rfl rfl ?_
        refine tv_bipush (x := nI 7) hG dX2_feed_14 rfl ?_
        refine tv_zicmp_gt (tgt := 38) hG dX2_feed_16 (by decide) (fun _ => ?_) (fun q => absurd (by rw [tv_n7]; exact hx7) q)
        refine tv_iconst (x := -1) hG dX2_feed_38 rfl ?_
        exact hret _ _ _ _ dX2_feed_39 ⟨Or.inr ⟨fun q => by obtain ⟨f1, t1, q1, q2, q3, q4, q5, q6⟩ := q; exact tv_bad_r (M := 7) (m := 7) (by decide) (by decide) (Or.inr hx7) q3 q4, rfl, rfl, rfl⟩, rfl⟩
  · refine tv_iload_n hG dX2_feed_0 rfl rfl ?_
    refine tv_zif_eq (tgt := 9) hG dX2_feed_1 (by decide) (fun q => absurd (Or.inl q) hbad) (fun _ => ?_)
    refine tv_iload_n hG dX2_feed_4 rfl rfl ?_
    refine tv_iconst (x := nI 1) hG dX2_feed_5 rfl ?_
    refine tv_zicmp_ne (tgt := 38) hG dX2_feed_6 (by decide) (fun _ => ?_) (fun q => absurd (Or.inr (by rw [q]; decide)) hbad)
    refine tv_iconst (x := -1) hG dX2_feed_38 rfl ?_
    exact hret _ _ _ _ dX2_feed_39 ⟨Or.inr ⟨fun q => by obtain ⟨f1, t1, q1, q2, q3, q4, q5, q6⟩ := q; exact tv_bad_f hbad q1 q2, rfl, rfl, rfl⟩, rfl⟩
set_option maxHeartbeats 4000000 in
theorem tv_cM_back (l : Launch) (D : va_G) (h : Nat → Nat) (d : Nat → ClassId) (σ : tv_M) (t n : Nat → Nat) (lg : Nat) (g : Int32) (hM : tv_isM σ t n lg) (hGS : tv_GS t n lg) : tv_CI l yX2_back cX2_back 2 (some .int) ({ frames := 0, cells := 0, slots := 0, locals := 0 } : Room) D (tv_tM d) (tv_wM h d) [.ref (h 20), .int g] σ (fun z τ => tv_pBack t n g z (τ 22) (τ 21) ∧ τ 20 0 = lg) := by
  refine tv_inI (own := RX2) (by decide) rfl (by simp [Value.category]) (Nat.le_of_ble_eq_true rfl) ?_
  intro G hG hret
  obtain ⟨rfl, rfl, rfl⟩ := hM
  rcases tv_fcase g with ⟨f, hf, rfl⟩ | hbad
  · have hn9 := (hGS.2.1 f hf).1
    refine tv_iload_n hG dX2_back_0 rfl rfl ?_
    refine tv_if_eq (tgt := 9) hG dX2_back_1 (by decide) (by omega) (fun c1 => ?_) (fun c1 => ?_)
    · refine tv_aload_n hG dX2_back_9 rfl rfl ?_
      refine tv_gM_21 hG dX2_back_10 ?_
      refine tv_iload_n hG dX2_back_13 rfl rfl ?_
      refine tv_lM_21 (v := σ 21 f) hG rfl dX2_back_14 (by omega) ?_
      refine tv_if_ne (tgt := 20) hG dX2_back_15 (by decide) (by omega) (fun c2 => ?_) (fun c2 => ?_)
      · refine tv_aload_n hG dX2_back_20 rfl rfl ?_
        refine tv_gM_21 hG dX2_back_21 ?_
        refine tv_iload_n hG dX2_back_24 rfl rfl ?_
        refine tv_dup2 hG dX2_back_25 rfl rfl ?_
        refine tv_lM_21 (v := σ 21 f) hG rfl dX2_back_26 (by omega) ?_
        refine tv_iconst (x := nI 1) hG dX2_back_27 rfl ?_
        refine tv_isub hG dX2_back_28 (by omega) ?_
        refine tv_sM_21 hG dX2_back_29 (by omega) ?_
        refine tv_aload_n hG dX2_back_30 rfl rfl ?_
        refine tv_gM_22 hG dX2_back_31 ?_
        refine tv_bipush (x := nI 9) hG dX2_back_34 rfl ?_
        refine tv_iload_n hG dX2_back_36 rfl rfl ?_
        refine tv_imul hG dX2_back_37 ?_
        refine tv_aload_n hG dX2_back_38 rfl rfl ?_
        refine tv_gM_21 hG dX2_back_39 ?_
        refine tv_iload_n hG dX2_back_42 rfl rfl ?_
        refine tv_lM_21 (v := (σ 21 f) - 1) hG (by simp [tv_st]) dX2_back_43 (by omega) ?_
        refine tv_iadd hG dX2_back_44 ?_
        refine tv_lM_22 (v := σ 22 (f * 9 + (σ 21 f - 1))) hG (by rw [tv_st_k (by decide), Nat.mul_comm]) dX2_back_45 (by omega) ?_
        refine hret _ _ _ _ dX2_back_46 ⟨Or.inl ⟨f, hf, rfl, by omega, rfl, ?_, ?_⟩, rfl⟩
        · exact tv_st_k (by decide)
        · funext j; simp [tv_st, tv_upd]
      · refine tv_iconst (x := -1) hG dX2_back_18 rfl ?_
        exact hret _ _ _ _ dX2_back_19 ⟨Or.inr ⟨fun q => by obtain ⟨f1, q1, q2, q3⟩ := q; have e1 : f = f1 := tv_inj (by omega) (by omega) q2; subst e1; omega, rfl, rfl, rfl⟩, rfl⟩
    · refine tv_iload_n hG dX2_back_4 rfl rfl ?_
      refine tv_iconst (x := nI 1) hG dX2_back_5 rfl ?_
      refine tv_icmp_ne (tgt := 18) hG dX2_back_6 (by decide) (by omega) (by omega) (fun q => by exfalso; omega) (fun _ => ?_)
      refine tv_aload_n hG dX2_back_9 rfl rfl ?_
      refine tv_gM_21 hG dX2_back_10 ?_
      refine tv_iload_n hG dX2_back_13 rfl rfl ?_
      refine tv_lM_21 (v := σ 21 f) hG rfl dX2_back_14 (by omega) ?_
      refine tv_if_ne (tgt := 20) hG dX2_back_15 (by decide) (by omega) (fun c3 => ?_) (fun c3 => ?_)
      · refine tv_aload_n hG dX2_back_20 rfl rfl ?_
        refine tv_gM_21 hG dX2_back_21 ?_
        refine tv_iload_n hG dX2_back_24 rfl rfl ?_
        refine tv_dup2 hG dX2_back_25 rfl rfl ?_
        refine tv_lM_21 (v := σ 21 f) hG rfl dX2_back_26 (by omega) ?_
        refine tv_iconst (x := nI 1) hG dX2_back_27 rfl ?_
        refine tv_isub hG dX2_back_28 (by omega) ?_
        refine tv_sM_21 hG dX2_back_29 (by omega) ?_
        refine tv_aload_n hG dX2_back_30 rfl rfl ?_
        refine tv_gM_22 hG dX2_back_31 ?_
        refine tv_bipush (x := nI 9) hG dX2_back_34 rfl ?_
        refine tv_iload_n hG dX2_back_36 rfl rfl ?_
        refine tv_imul hG dX2_back_37 ?_
        refine tv_aload_n hG dX2_back_38 rfl rfl ?_
        refine tv_gM_21 hG dX2_back_39 ?_
        refine tv_iload_n hG dX2_back_42 rfl rfl ?_
        refine tv_lM_21 (v := (σ 21 f) - 1) hG (by simp [tv_st]) dX2_back_43 (by omega) ?_
        refine tv_iadd hG dX2_back_44 ?_
        refine tv_lM_22 (v := σ 22 (f * 9 + (σ 21 f - 1))) hG (by rw [tv_st_k (by decide), Nat.mul_comm]) dX2_back_45 (by omega) ?_
        refine hret _ _ _ _ dX2_back_46 ⟨Or.inl ⟨f, hf, rfl, by omega, rfl, ?_, ?_⟩, rfl⟩
        · exact tv_st_k (by decide)
        · funext j; simp [tv_st, tv_upd]
      · refine tv_iconst (x := -1) hG dX2_back_18 rfl ?_
        exact hret _ _ _ _ dX2_back_19 ⟨Or.inr ⟨fun q => by obtain ⟨f1, q1, q2, q3⟩ := q; have e1 : f = f1 := tv_inj (by omega) (by omega) q2; subst e1; omega, rfl, rfl, rfl⟩, rfl⟩
  · refine tv_iload_n hG dX2_back_0 rfl rfl ?_
    refine tv_zif_eq (tgt := 9) hG dX2_back_1 (by decide) (fun q => absurd (Or.inl q) hbad) (fun _ => ?_)
    refine tv_iload_n hG dX2_back_4 rfl rfl ?_
    refine tv_iconst (x := nI 1) hG dX2_back_5 rfl ?_
    refine tv_zicmp_ne (tgt := 18) hG dX2_back_6 (by decide) (fun _ => ?_) (fun q => absurd (Or.inr (by rw [q]; decide)) hbad)
    refine tv_iconst (x := -1) hG dX2_back_18 rfl ?_
    exact hret _ _ _ _ dX2_back_19 ⟨Or.inr ⟨fun q => by obtain ⟨f1, q1, q2, q3⟩ := q; exact tv_bad_f hbad q1 q2, rfl, rfl, rfl⟩, rfl⟩
set_option maxHeartbeats 4000000 in
theorem tv_cM_eval (l : Launch) (D : va_G) (h : Nat → Nat) (d : Nat → ClassId) (σ : tv_M) (t n : Nat → Nat) (lg : Nat) (f k : Nat) (hM : tv_isM σ t n lg) (hGS : tv_GS t n lg) (hf : f < 2) (hk : k ≤ 80) (hcp : tv_CP t n f) : tv_CI l yX2_eval cX2_eval 8 (some .int) ({ frames := 1, cells := 0, slots := 0, locals := 22 } : Room) D (tv_tM d) (tv_wM h d) [.ref (h 20), .int (nI f), .int (nI k)] σ (fun z τ => z = nI (tv_EV t n lg f k) ∧ ∀ q, q ≠ 23 → τ q = σ q) := by
  refine tv_inI (own := RX2) (by decide) rfl (by simp [Value.category]) (Nat.le_of_ble_eq_true rfl) ?_
  intro G hG hret
  obtain ⟨rfl, rfl, rfl⟩ := hM
  have hn9 := (hGS.2.1 f hf).1
  have hg := (hGS.2.1 f hf).2
  have hpos : 0 < σ 21 f := by
    rcases Nat.eq_zero_or_pos (σ 21 f) with q | q
    · unfold tv_CP at hcp; rw [q] at hcp; simp [tv_op] at hcp
    · exact q
  have hlen : ∀ j, j ≤ σ 21 f → (tv_vs (σ 22) (f * 9 + σ 21 f) (σ 20 0) (tv_dg k) (σ 21 f - j)).length = tv_op (σ 22) (f * 9) j := by
    intro j hj
    rw [tv_vs_map _ (by omega), List.length_map, tv_ps_len hg hcp _ (by omega), show σ 21 f - (σ 21 f - j) = j by omega]
  have hnext : ∀ j, j + 1 ≤ σ 21 f → (tv_vs (σ 22) (f * 9 + σ 21 f) (σ 20 0) (tv_dg k) (σ 21 f - j)) = tv_v1 (σ 20 0) (tv_dg k) (σ 22 (f * 9 + j)) (tv_vs (σ 22) (f * 9 + σ 21 f) (σ 20 0) (tv_dg k) (σ 21 f - (j + 1))) :: (tv_vs (σ 22) (f * 9 + σ 21 f) (σ 20 0) (tv_dg k) (σ 21 f - (j + 1))).drop (tv_ar (σ 22 (f * 9 + j))) := by
    intro j hj
    have e1 : σ 21 f - j = (σ 21 f - (j + 1)) + 1 := by omega
    have e2 : f * 9 + σ 21 f - (σ 21 f - (j + 1) + 1) = f * 9 + j := by omega
    rw [e1]
    simp only [tv_vs, e2]
  refine tv_iconst (x := nI 0) hG dX2_eval_0 rfl ?_
  refine tv_istore_n (vs1 := [.ref (h 20), .int (nI f), .int (nI k), .int (nI 0)]) hG dX2_eval_1 rfl (by decide) (Nat.le_of_ble_eq_true rfl) rfl ?_
  refine tv_aload_n hG dX2_eval_2 rfl rfl ?_
  refine tv_gM_21 hG dX2_eval_3 ?_
  refine tv_iload_n hG dX2_eval_6 rfl rfl ?_
  refine tv_lM_21 (v := σ 21 f) hG rfl dX2_eval_7 (by omega) ?_
  refine tv_iconst (x := nI 1) hG dX2_eval_8 rfl ?_
  refine tv_isub hG dX2_eval_9 (by omega) ?_
  refine tv_istore (vs1 := [.ref (h 20), .int (nI f), .int (nI k), .int (nI 0), .int (nI ((σ 21 f) - 1))]) hG dX2_eval_10 (by decide) (Nat.le_of_ble_eq_true rfl) rfl ?_
  have loop : ∀ (j c : Nat) (ρ : tv_M) (i : Int32), i = nI j - 1 → j ≤ σ 21 f → c = (tv_vs (σ 22) (f * 9 + σ 21 f) (σ 20 0) (tv_dg k) (σ 21 f - j)).length → tv_Sk (tv_vs (σ 22) (f * 9 + σ 21 f) (σ 20 0) (tv_dg k) (σ 21 f - j)) ρ → (∀ q, q ≠ 23 → ρ q = σ q) → G 12 [.ref (h 20), .int (nI f), .int (nI k), .int (nI c), .int i] [] ρ := by
    intro j
    induction j with
    | zero =>
      intro c ρ i hi hj hc hS hfr
      obtain rfl : i = -1 := by rw [hi]; decide
      have h1 := hlen 0 (by omega)
      rw [show tv_op (σ 22) (f * 9) 0 = 1 from rfl] at h1
      have htop : ρ 23 0 = tv_EV (σ 22) (σ 21) (σ 20 0) f k := by
        have e1 : tv_EV (σ 22) (σ 21) (σ 20 0) f k = (tv_vs (σ 22) (f * 9 + σ 21 f) (σ 20 0) (tv_dg k) (σ 21 f - 0)).getD 0 0 := by
          unfold tv_EV tv_V; rw [show f * 9 + σ 21 f - f * 9 = σ 21 f - 0 by omega]
        rw [e1]
        have h2 : 0 < (tv_vs (σ 22) (f * 9 + σ 21 f) (σ 20 0) (tv_dg k) (σ 21 f - 0)).length := by omega
        have h3 := hS 0 _ (List.getElem?_eq_getElem h2)
        rw [h1] at h3
        rw [h3, List.getD_eq_getElem?_getD, List.getElem?_eq_getElem h2]; rfl
      refine tv_iload hG dX2_eval_12 rfl ?_
      refine tv_zif_lt (tgt := 187) hG dX2_eval_14 (by decide) (fun _ => ?_) (fun q => absurd q (by decide))
      refine tv_aload_n hG dX2_eval_187 rfl rfl ?_
      refine tv_gM_23 hG dX2_eval_188 ?_
      refine tv_iconst (x := nI 0) hG dX2_eval_191 rfl ?_
      refine tv_lM_23 (v := tv_EV (σ 22) (σ 21) (σ 20 0) f k) hG htop dX2_eval_192 (by omega) ?_
      exact hret _ _ _ _ dX2_eval_193 ⟨rfl, hfr⟩
    | succ j ih =>
      intro c ρ i hi hj hc hS hfr
      obtain rfl : i = nI j := by rw [hi]; exact nI_pred j
      have e22 : ρ 22 = σ 22 := hfr 22 (by decide)
      have e20 : ρ 20 0 = σ 20 0 := by rw [hfr 20 (by decide)]
      have h8 := hGS.2.2 (f * 9 + j) (by omega)
      have hop := hg j (by omega)
      have hl := hlen (j + 1) hj
      have hle := tv_op_le (σ 22) (f * 9) j
      have hnx := hnext j hj
      rw [tv_op_s] at hl
      have hc9 : c ≤ 9 - j - 1 := by
        have q : ∀ m, (tv_vs (σ 22) (f * 9 + σ 21 f) (σ 20 0) (tv_dg k) m).length ≤ m := by
          intro m
          induction m with
          | zero => simp [tv_vs]
          | succ m ih => simp only [tv_vs, List.length_cons, List.length_drop]; omega
        have := q (σ 21 f - (j + 1))
        omega
      generalize hls : (tv_vs (σ 22) (f * 9 + σ 21 f) (σ 20 0) (tv_dg k) (σ 21 f - (j + 1))) = ls at *
      have hv3 : ∀ v ∈ ls, v < 3 := by
        intro v hv
        rw [← hls, tv_vs_map _ (by omega)] at hv
        obtain ⟨c1, hc1, rfl⟩ := List.mem_map.mp hv
        obtain ⟨q, hq⟩ := List.mem_iff_getElem?.mp hc1
        have hsf := tv_ps_suf _ (by omega) q c1 hq
        exact tv_V_lt (fun l _ => tv_dg_lt k l) (fun x hx => hGS.2.2 x (by omega)) c1 hsf.2.2
      refine tv_iload hG dX2_eval_12 rfl ?_
      refine tv_if_lt (tgt := 187) hG dX2_eval_14 (by decide) (by omega) ?_
      refine tv_aload_n hG dX2_eval_17 rfl rfl ?_
      refine tv_gM_22 hG dX2_eval_18 ?_
      refine tv_bipush (x := nI 9) hG dX2_eval_21 rfl ?_
      refine tv_iload_n hG dX2_eval_23 rfl rfl ?_
      refine tv_imul hG dX2_eval_24 ?_
      refine tv_iload hG dX2_eval_25 rfl ?_
      refine tv_iadd hG dX2_eval_27 ?_
      refine tv_lM_22 (v := σ 22 (f * 9 + j)) hG (by rw [e22, Nat.mul_comm]) dX2_eval_28 (by omega) ?_
      refine tv_istore (vs1 := [.ref (h 20), .int (nI f), .int (nI k), .int (nI c), .int (nI j), .int (nI (σ 22 (f * 9 + j)))]) hG dX2_eval_29 (by decide) (Nat.le_of_ble_eq_true rfl) rfl ?_
      refine tv_iload hG dX2_eval_31 rfl ?_
      refine tv_iconst (x := nI 4) hG dX2_eval_33 rfl ?_
      refine tv_icmp_lt (tgt := 58) hG dX2_eval_34 (by decide) (by omega) (by omega) (fun c1 => ?_) (fun c1 => ?_)
      · refine tv_iload hG dX2_eval_58 rfl ?_
        refine tv_if_ne (tgt := 91) hG dX2_eval_60 (by decide) (by omega) (fun c2 => ?_) (fun c2 => ?_)
        · have har : tv_ar (σ 22 (f * 9 + j)) = 2 := by unfold tv_ar; rw [if_neg (by omega), if_pos (by omega)]
          rw [har] at hl
          obtain ⟨x, y, r, rfl⟩ : ∃ x y r, ls = x :: y :: r := by
            cases ls with
            | nil => exfalso; simp only [List.length_nil, List.length_cons] at hl; omega
            | cons x r =>
              cases r with
              | nil => exfalso; simp only [List.length_nil, List.length_cons] at hl; omega
              | cons y r => exact ⟨x, y, r, rfl⟩
          rw [List.length_cons, List.length_cons] at hc
          have hx3 := hv3 x List.mem_cons_self
          have hy3 := hv3 y (List.mem_cons_of_mem _ List.mem_cons_self)
          have htop : ρ 23 (c - 1) = x := by
            have q := hS 0 x rfl
            rw [List.length_cons, List.length_cons] at q
            rw [← q]; congr 1; omega
          have htop2 : ρ 23 (c - 2) = y := by
            have q := hS 1 y rfl
            rw [List.length_cons, List.length_cons] at q
            rw [← q]; congr 1; omega
          have hv1 : tv_v1 (σ 20 0) (tv_dg k) (σ 22 (f * 9 + j)) (x :: y :: r) = tv_app (σ 20 0) (σ 22 (f * 9 + j)) x y := by unfold tv_v1; rw [if_neg (by omega), if_neg (by omega)]; rfl
          refine tv_iload_n hG dX2_eval_91 rfl rfl ?_
          refine tv_iconst (x := nI 2) hG dX2_eval_92 rfl ?_
          refine tv_icmp_lt (tgt := 181) hG dX2_eval_93 (by decide) (by omega) (by omega) (fun q => by exfalso; omega) (fun _ => ?_)
          refine tv_aload_n hG dX2_eval_96 rfl rfl ?_
          refine tv_gM_23 hG dX2_eval_97 ?_
          refine tv_iload_n hG dX2_eval_100 rfl rfl ?_
          refine tv_iconst (x := nI 1) hG dX2_eval_101 rfl ?_
          refine tv_isub hG dX2_eval_102 (by omega) ?_
          refine tv_lM_23 (v := x) hG htop dX2_eval_103 (by omega) ?_
          refine tv_istore (vs1 := [.ref (h 20), .int (nI f), .int (nI k), .int (nI c), .int (nI j), .int (nI (σ 22 (f * 9 + j))), .int (nI x)]) hG dX2_eval_104 (by decide) (Nat.le_of_ble_eq_true rfl) rfl ?_
          refine tv_aload_n hG dX2_eval_106 rfl rfl ?_
          refine tv_gM_23 hG dX2_eval_107 ?_
          refine tv_iload_n hG dX2_eval_110 rfl rfl ?_
          refine tv_iconst (x := nI 2) hG dX2_eval_111 rfl ?_
          refine tv_isub hG dX2_eval_112 (by omega) ?_
          refine tv_lM_23 (v := y) hG htop2 dX2_eval_113 (by omega) ?_
          refine tv_istore (vs1 := [.ref (h 20), .int (nI f), .int (nI k), .int (nI c), .int (nI j), .int (nI (σ 22 (f * 9 + j))), .int (nI x), .int (nI y)]) hG dX2_eval_114 (by decide) (Nat.le_of_ble_eq_true rfl) rfl ?_
          refine tv_iinc (y := nI (c - 1)) (vs1 := [.ref (h 20), .int (nI f), .int (nI k), .int (nI (c - 1)), .int (nI j), .int (nI (σ 22 (f * 9 + j))), .int (nI x), .int (nI y)]) hG dX2_eval_116 rfl (by rw [show (Int32.ofInt (-1)) = -1 by decide]; exact sb_m1 (by omega)) (by decide) rfl ?_
          refine tv_aload_n hG dX2_eval_119 rfl rfl ?_
          refine tv_gM_23 hG dX2_eval_120 ?_
          refine tv_iload_n hG dX2_eval_123 rfl rfl ?_
          refine tv_iconst (x := nI 1) hG dX2_eval_124 rfl ?_
          refine tv_isub hG dX2_eval_125 (by omega) ?_
          refine tv_iload hG dX2_eval_126 rfl ?_
          refine tv_iconst (x := nI 1) hG dX2_eval_128 rfl ?_
          refine tv_icmp_ne (tgt := 149) hG dX2_eval_129 (by decide) (by omega) (by omega) (fun c3 => ?_) (fun c3 => ?_)
          · refine tv_iload hG dX2_eval_149 rfl ?_
            refine tv_iconst (x := nI 2) hG dX2_eval_151 rfl ?_
            refine tv_icmp_ne (tgt := 172) hG dX2_eval_152 (by decide) (by omega) (by omega) (fun c4 => ?_) (fun c4 => ?_)
            · refine tv_aload_n hG dX2_eval_172 rfl rfl ?_
              refine tv_iload hG dX2_eval_173 rfl ?_
              refine tv_iload hG dX2_eval_175 rfl ?_
              refine tv_callxI (As := [.int (nI x), .int (nI y)]) (st := [.int (nI ((c - 1) - 1)), .ref (h 23)]) hG (tv_cM_implies l D h d ρ x y (by omega) (by omega) (by rw [e20]; exact hGS.1)) q292 q294 qs20 q23 q295 (ci := 1) rfl rfl 2 (by decide +kernel) rfl rfl ⟨Nat.le_of_ble_eq_true rfl, Nat.le_of_ble_eq_true rfl⟩ rfl rfl (Nat.le_of_ble_eq_true rfl) dX2_eval_177 ?_
              rw [e20]
              refine tv_sM_23 hG dX2_eval_180 (by omega) ?_
              have hval : tv_app (σ 20 0) (σ 22 (f * 9 + j)) x y = tv_app (σ 20 0) 3 x y := by
                rw [show σ 22 (f * 9 + j) = 3 by omega]
              refine tv_iinc (y := nI j - 1) (vs1 := [.ref (h 20), .int (nI f), .int (nI k), .int (nI (c - 1)), .int (nI j - 1), .int (nI (σ 22 (f * 9 + j))), .int (nI x), .int (nI y)]) hG dX2_eval_181 rfl (tv_decI j) (by decide) rfl ?_
              refine tv_goto (tgt := 12) hG dX2_eval_184 (by decide) ?_
              refine tv_drop (vs1 := [.ref (h 20), .int (nI f), .int (nI k), .int (nI (c - 1)), .int (nI j - 1)]) hG ⟨_, rfl⟩ ?_
              have hS2 := tv_Sk_two (v := tv_app (σ 20 0) 3 x y) (c := c - 1 - 1) hS (by omega)
              refine ih _ _ (nI j - 1) rfl (by omega) ?_ ?_ (fun q hq => by rw [tv_st_k hq]; exact hfr q hq)
              · rw [hnx]; simp only [har, List.length_cons, List.length_drop]; omega
              · rw [hnx, har]; rw [hv1, hval]; exact hS2
            · refine tv_iload hG dX2_eval_155 rfl ?_
              refine tv_iload hG dX2_eval_157 rfl ?_
              refine tv_icmp_le (tgt := 167) hG dX2_eval_159 (by decide) (by omega) (by omega) (fun c5 => ?_) (fun c5 => ?_)
              · refine tv_iload hG dX2_eval_167 rfl ?_
                refine tv_goto (tgt := 180) hG dX2_eval_169 (by decide) ?_
                refine tv_sM_23 hG dX2_eval_180 (by omega) ?_
                have hval : tv_app (σ 20 0) (σ 22 (f * 9 + j)) x y = y := by
                  unfold tv_app; (repeat' split) <;> omega
                refine tv_iinc (y := nI j - 1) (vs1 := [.ref (h 20), .int (nI f), .int (nI k), .int (nI (c - 1)), .int (nI j - 1), .int (nI (σ 22 (f * 9 + j))), .int (nI x), .int (nI y)]) hG dX2_eval_181 rfl (tv_decI j) (by decide) rfl ?_
                refine tv_goto (tgt := 12) hG dX2_eval_184 (by decide) ?_
                refine tv_drop (vs1 := [.ref (h 20), .int (nI f), .int (nI k), .int (nI (c - 1)), .int (nI j - 1)]) hG ⟨_, rfl⟩ ?_
                have hS2 := tv_Sk_two (v := y) (c := c - 1 - 1) hS (by omega)
                refine ih _ _ (nI j - 1) rfl (by omega) ?_ ?_ (fun q hq => by rw [tv_st_k hq]; exact hfr q hq)
                · rw [hnx]; simp only [har, List.length_cons, List.length_drop]; omega
                · rw [hnx, har]; rw [hv1, hval]; exact hS2
              · refine tv_iload hG dX2_eval_162 rfl ?_
                refine tv_goto (tgt := 180) hG dX2_eval_164 (by decide) ?_
                refine tv_sM_23 hG dX2_eval_180 (by omega) ?_
                have hval : tv_app (σ 20 0) (σ 22 (f * 9 + j)) x y = x := by
                  unfold tv_app; (repeat' split) <;> omega
                refine tv_iinc (y := nI j - 1) (vs1 := [.ref (h 20), .int (nI f), .int (nI k), .int (nI (c - 1)), .int (nI j - 1), .int (nI (σ 22 (f * 9 + j))), .int (nI x), .int (nI y)]) hG dX2_eval_181 rfl (tv_decI j) (by decide) rfl ?_
                refine tv_goto (tgt := 12) hG dX2_eval_184 (by decide) ?_
                refine tv_drop (vs1 := [.ref (h 20), .int (nI f), .int (nI k), .int (nI (c - 1)), .int (nI j - 1)]) hG ⟨_, rfl⟩ ?_
                have hS2 := tv_Sk_two (v := x) (c := c - 1 - 1) hS (by omega)
                refine ih _ _ (nI j - 1) rfl (by omega) ?_ ?_ (fun q hq => by rw [tv_st_k hq]; exact hfr q hq)
                · rw [hnx]; simp only [har, List.length_cons, List.length_drop]; omega
                · rw [hnx, har]; rw [hv1, hval]; exact hS2
          · refine tv_iload hG dX2_eval_132 rfl ?_
            refine tv_iload hG dX2_eval_134 rfl ?_
            refine tv_icmp_ge (tgt := 144) hG dX2_eval_136 (by decide) (by omega) (by omega) (fun c6 => ?_) (fun c6 => ?_)
            · refine tv_iload hG dX2_eval_144 rfl ?_
              refine tv_goto (tgt := 180) hG dX2_eval_146 (by decide) ?_
              refine tv_sM_23 hG dX2_eval_180 (by omega) ?_
              have hval : tv_app (σ 20 0) (σ 22 (f * 9 + j)) x y = y := by
                unfold tv_app; (repeat' split) <;> omega
              refine tv_iinc (y := nI j - 1) (vs1 := [.ref (h 20), .int (nI f), .int (nI k), .int (nI (c - 1)), .int (nI j - 1), .int (nI (σ 22 (f * 9 + j))), .int (nI x), .int (nI y)]) hG dX2_eval_181 rfl (tv_decI j) (by decide) rfl ?_
              refine tv_goto (tgt := 12) hG dX2_eval_184 (by decide) ?_
              refine tv_drop (vs1 := [.ref (h 20), .int (nI f), .int (nI k), .int (nI (c - 1)), .int (nI j - 1)]) hG ⟨_, rfl⟩ ?_
              have hS2 := tv_Sk_two (v := y) (c := c - 1 - 1) hS (by omega)
              refine ih _ _ (nI j - 1) rfl (by omega) ?_ ?_ (fun q hq => by rw [tv_st_k hq]; exact hfr q hq)
              · rw [hnx]; simp only [har, List.length_cons, List.length_drop]; omega
              · rw [hnx, har]; rw [hv1, hval]; exact hS2
            · refine tv_iload hG dX2_eval_139 rfl ?_
              refine tv_goto (tgt := 180) hG dX2_eval_141 (by decide) ?_
              refine tv_sM_23 hG dX2_eval_180 (by omega) ?_
              have hval : tv_app (σ 20 0) (σ 22 (f * 9 + j)) x y = x := by
                unfold tv_app; (repeat' split) <;> omega
              refine tv_iinc (y := nI j - 1) (vs1 := [.ref (h 20), .int (nI f), .int (nI k), .int (nI (c - 1)), .int (nI j - 1), .int (nI (σ 22 (f * 9 + j))), .int (nI x), .int (nI y)]) hG dX2_eval_181 rfl (tv_decI j) (by decide) rfl ?_
              refine tv_goto (tgt := 12) hG dX2_eval_184 (by decide) ?_
              refine tv_drop (vs1 := [.ref (h 20), .int (nI f), .int (nI k), .int (nI (c - 1)), .int (nI j - 1)]) hG ⟨_, rfl⟩ ?_
              have hS2 := tv_Sk_two (v := x) (c := c - 1 - 1) hS (by omega)
              refine ih _ _ (nI j - 1) rfl (by omega) ?_ ?_ (fun q hq => by rw [tv_st_k hq]; exact hfr q hq)
              · rw [hnx]; simp only [har, List.length_cons, List.length_drop]; omega
              · rw [hnx, har]; rw [hv1, hval]; exact hS2
        · have har : tv_ar (σ 22 (f * 9 + j)) = 1 := by unfold tv_ar; rw [if_pos (by omega)]
          rw [har] at hl
          obtain ⟨x, r, rfl⟩ : ∃ x r, ls = x :: r := by
            cases ls with
            | nil => exfalso; simp only [List.length_nil, List.length_cons] at hl; omega
            | cons x r => exact ⟨x, r, rfl⟩
          rw [List.length_cons] at hc
          have hx3 := hv3 x List.mem_cons_self
          have htop : ρ 23 (c - 1) = x := by
            have q := hS 0 x rfl
            rw [List.length_cons] at q
            rw [← q]; congr 1; omega
          have hv1 : tv_v1 (σ 20 0) (tv_dg k) (σ 22 (f * 9 + j)) (x :: r) = tv_not (σ 20 0) x := by unfold tv_v1; rw [if_neg (by omega), if_pos (by omega)]; rfl
          refine tv_iload_n hG dX2_eval_63 rfl rfl ?_
          refine tv_iconst (x := nI 1) hG dX2_eval_64 rfl ?_
          refine tv_icmp_lt (tgt := 91) hG dX2_eval_65 (by decide) (by omega) (by omega) (fun q => by exfalso; omega) (fun _ => ?_)
          refine tv_aload_n hG dX2_eval_68 rfl rfl ?_
          refine tv_gM_23 hG dX2_eval_69 ?_
          refine tv_iload_n hG dX2_eval_72 rfl rfl ?_
          refine tv_iconst (x := nI 1) hG dX2_eval_73 rfl ?_
          refine tv_isub hG dX2_eval_74 (by omega) ?_
          refine tv_aload_n hG dX2_eval_75 rfl rfl ?_
          refine tv_aload_n hG dX2_eval_76 rfl rfl ?_
          refine tv_gM_23 hG dX2_eval_77 ?_
          refine tv_iload_n hG dX2_eval_80 rfl rfl ?_
          refine tv_iconst (x := nI 1) hG dX2_eval_81 rfl ?_
          refine tv_isub hG dX2_eval_82 (by omega) ?_
          refine tv_lM_23 (v := x) hG htop dX2_eval_83 (by omega) ?_
          refine tv_callxI (As := [.int (nI x)]) (st := [.int (nI (c - 1)), .ref (h 23)]) hG (tv_cM_not l D h d ρ x (by omega) (by rw [e20]; exact hGS.1)) q288 q290 qs19 q23 q291 (ci := 1) rfl rfl 1 (by decide +kernel) rfl rfl ⟨Nat.le_of_ble_eq_true rfl, Nat.le_of_ble_eq_true rfl⟩ rfl rfl (Nat.le_of_ble_eq_true rfl) dX2_eval_84 ?_
          rw [e20]
          refine tv_sM_23 hG dX2_eval_87 (by omega) ?_
          refine tv_goto (tgt := 181) hG dX2_eval_88 (by decide) ?_
          refine tv_iinc (y := nI j - 1) (vs1 := [.ref (h 20), .int (nI f), .int (nI k), .int (nI c), .int (nI j - 1), .int (nI (σ 22 (f * 9 + j)))]) hG dX2_eval_181 rfl (tv_decI j) (by decide) rfl ?_
          refine tv_goto (tgt := 12) hG dX2_eval_184 (by decide) ?_
          refine tv_drop (vs1 := [.ref (h 20), .int (nI f), .int (nI k), .int (nI c), .int (nI j - 1)]) hG ⟨_, rfl⟩ ?_
          have hS2 := tv_Sk_top (v := tv_not (σ 20 0) x) (c := c - 1) hS (by omega)
          refine ih _ _ (nI j - 1) rfl (by omega) ?_ ?_ (fun q hq => by rw [tv_st_k hq]; exact hfr q hq)
          · rw [hnx]; simp only [har, List.length_cons, List.length_drop]; omega
          · rw [hnx, har]; rw [hv1]; exact hS2
      · have har : tv_ar (σ 22 (f * 9 + j)) = 0 := by unfold tv_ar; rw [if_neg (by omega), if_neg (by omega)]
        have hv1 : tv_v1 (σ 20 0) (tv_dg k) (σ 22 (f * 9 + j)) ls = k / 3 ^ (σ 22 (f * 9 + j) - 4) % 3 := by unfold tv_v1; rw [if_pos (by omega)]; rfl
        refine tv_aload_n hG dX2_eval_37 rfl rfl ?_
        refine tv_gM_23 hG dX2_eval_38 ?_
        refine tv_iload_n hG dX2_eval_41 rfl rfl ?_
        refine tv_aload_n hG dX2_eval_42 rfl rfl ?_
        refine tv_iload hG dX2_eval_43 rfl ?_
        refine tv_iconst (x := nI 4) hG dX2_eval_45 rfl ?_
        refine tv_isub hG dX2_eval_46 (by omega) ?_
        refine tv_iload_n hG dX2_eval_47 rfl rfl ?_
        refine tv_callxI (As := [.int (nI ((σ 22 (f * 9 + j)) - 4)), .int (nI k)]) (st := [.int (nI c), .ref (h 23)]) hG (tv_cM_letter l D h d ρ ((σ 22 (f * 9 + j)) - 4) k (by omega) hk) q284 q286 qs18 q23 q287 (ci := 1) rfl rfl 2 (by decide +kernel) rfl rfl ⟨Nat.le_of_ble_eq_true rfl, Nat.le_of_ble_eq_true rfl⟩ rfl rfl (Nat.le_of_ble_eq_true rfl) dX2_eval_48 ?_
        refine tv_sM_23 hG dX2_eval_51 (by omega) ?_
        refine tv_iinc (y := nI (c + 1)) (vs1 := [.ref (h 20), .int (nI f), .int (nI k), .int (nI (c + 1)), .int (nI j), .int (nI (σ 22 (f * 9 + j)))]) hG dX2_eval_52 rfl (nI_1 _) (by decide) rfl ?_
        refine tv_goto (tgt := 181) hG dX2_eval_55 (by decide) ?_
        refine tv_iinc (y := nI j - 1) (vs1 := [.ref (h 20), .int (nI f), .int (nI k), .int (nI (c + 1)), .int (nI j - 1), .int (nI (σ 22 (f * 9 + j)))]) hG dX2_eval_181 rfl (tv_decI j) (by decide) rfl ?_
        refine tv_goto (tgt := 12) hG dX2_eval_184 (by decide) ?_
        refine tv_drop (vs1 := [.ref (h 20), .int (nI f), .int (nI k), .int (nI (c + 1)), .int (nI j - 1)]) hG ⟨_, rfl⟩ ?_
        have hS2 := tv_Sk_push (v := k / 3 ^ (σ 22 (f * 9 + j) - 4) % 3) hS hc
        refine ih _ _ (nI j - 1) rfl (by omega) ?_ ?_ (fun q hq => by rw [tv_st_k hq]; exact hfr q hq)
        · rw [hnx]; simp only [har, List.length_cons, List.length_drop]; omega
        · rw [hnx, har]; rw [hv1]; exact hS2
  exact loop (σ 21 f) 0 σ _ (by rw [← tv_n1, pk_sub (by omega)]) (Nat.le_refl _) (by rw [Nat.sub_self]; rfl) (by rw [Nat.sub_self]; intro q v hq; simp [tv_vs] at hq) (fun _ _ => rfl)
end
section
set_option maxRecDepth 100000
/-! WALKS: the questions of ThreeValuedModel -/
set_option maxHeartbeats 4000000 in
theorem tv_cM_value (l : Launch) (D : va_G) (h : Nat → Nat) (d : Nat → ClassId) (σ : tv_M) (t n : Nat → Nat) (lg : Nat) (g x : Int32) (hM : tv_isM σ t n lg) (hGS : tv_GS t n lg) : tv_CI l yX2_value cX2_value 3 (some .int) ({ frames := 2, cells := 0, slots := 0, locals := 49 } : Room) D (tv_tM d) (tv_wM h d) [.ref (h 20), .int g, .int x] σ (fun z τ => tv_pVal t n lg g x z ∧ ∀ q, q ≠ 23 → τ q = σ q) := by
  refine tv_inI (own := RX2) (by decide) rfl (by simp [Value.category]) (Nat.le_of_ble_eq_true rfl) ?_
  intro G hG hret
  rcases tv_fcase g with ⟨f, hf, rfl⟩ | hbadf
  · by_cases hcp : tv_CP t n f
    · rcases tv_rcase x 80 80 (by decide) with ⟨k, hk, rfl⟩ | hx0 | hx7
      · refine tv_aload_n hG dX2_value_0 rfl rfl ?_
        refine tv_iload_n hG dX2_value_1 rfl rfl ?_
        refine tv_callxI (As := [.int (nI f)]) (st := []) hG (tv_cM_complete_t l D h d σ t n lg f hM hGS hf hcp) q267 q268 q269 q23 q270 (ci := 1) rfl rfl 1 (by decide +kernel) rfl rfl ⟨Nat.le_of_ble_eq_true rfl, Nat.le_of_ble_eq_true rfl⟩ rfl rfl (Nat.le_of_ble_eq_true rfl) dX2_value_2 ?_
        refine tv_if_eq (tgt := 27) hG dX2_value_5 (by decide) (by omega) (fun q => absurd q (by decide)) (fun _ => ?_)
        refine tv_iload_n hG dX2_value_8 rfl rfl ?_
        refine tv_if_lt (tgt := 27) hG dX2_value_9 (by decide) (by omega) ?_
        refine tv_iload_n hG dX2_value_12 rfl rfl ?_
        refine tv_bipush (x := nI 80) hG dX2_value_13 rfl ?_
        refine tv_icmp_gt (tgt := 27) hG dX2_value_15 (by decide) (by omega) (by omega) (fun q => by exfalso; omega) (fun _ => ?_)
        refine tv_aload_n hG dX2_value_18 rfl rfl ?_
        refine tv_iload_n hG dX2_value_19 rfl rfl ?_
        refine tv_iload_n hG dX2_value_20 rfl rfl ?_
        refine tv_callI (As := [.int (nI f), .int (nI k)]) (st := []) hG (tv_cM_eval l D h d σ t n lg f k hM hGS hf (by omega) hcp) q280 q282 qs17 q23 q283 (ci := 1) rfl rfl 2 (by decide +kernel) rfl rfl ⟨Nat.le_of_ble_eq_true rfl, Nat.le_of_ble_eq_true rfl⟩ rfl rfl (Nat.le_of_ble_eq_true rfl) dX2_value_21 (fun z τ1 hp => ?_)
        obtain ⟨rfl, he1⟩ := hp
        have hM1 := tv_isM_to hM he1
        have hfr1 : ∀ q, q ≠ 23 → τ1 q = σ q := fun q hq => (he1 q hq).trans ((fun _ _ => rfl) q hq)
        have hE1 := tv_EV_lt hGS hf hcp k
        refine tv_goto (tgt := 28) hG dX2_value_24 (by decide) ?_
        exact hret _ _ _ _ dX2_value_28 ⟨Or.inl ⟨f, k, hf, rfl, hk, rfl, hcp, rfl⟩, hfr1⟩
      · refine tv_aload_n hG dX2_value_0 rfl rfl ?_
        refine tv_iload_n hG dX2_value_1 rfl rfl ?_
        refine tv_callxI (As := [.int (nI f)]) (st := []) hG (tv_cM_complete_t l D h d σ t n lg f hM hGS hf hcp) q267 q268 q269 q23 q270 (ci := 1) rfl rfl 1 (by decide +kernel) rfl rfl ⟨Nat.le_of_ble_eq_true rfl, Nat.le_of_ble_eq_true rfl⟩ rfl rfl (Nat.le_of_ble_eq_true rfl) dX2_value_2 ?_
        refine tv_if_eq (tgt := 27) hG dX2_value_5 (by decide) (by omega) (fun q => absurd q (by decide)) (fun _ => ?_)
        refine tv_iload_n hG dX2_value_8 rfl rfl ?_
        refine tv_zif_lt (tgt := 27) hG dX2_value_9 (by decide) (fun _ => ?_) (fun q => absurd hx0 q)
        refine tv_iconst (x := -1) hG dX2_value_27 rfl ?_
        exact hret _ _ _ _ dX2_value_28 ⟨Or.inr ⟨rfl, fun q => by obtain ⟨f1, k1, q1, q2, q3, q4, q5⟩ := q; exact tv_bad_r (M := 80) (m := 80) (by decide) (by decide) (Or.inl hx0) q3 q4⟩, fun _ _ => rfl⟩
      · refine tv_aload_n hG dX2_value_0 rfl rfl ?_
        refine tv_iload_n hG dX2_value_1 rfl rfl ?_
        refine tv_callxI (As := [.int (nI f)]) (st := []) hG (tv_cM_complete_t l D h d σ t n lg f hM hGS hf hcp) q267 q268 q269 q23 q270 (ci := 1) rfl rfl 1 (by decide +kernel) rfl rfl ⟨Nat.le_of_ble_eq_true rfl, Nat.le_of_ble_eq_true rfl⟩ rfl rfl (Nat.le_of_ble_eq_true rfl) dX2_value_2 ?_
        refine tv_if_eq (tgt := 27) hG dX2_value_5 (by decide) (by omega) (fun q => absurd q (by decide)) (fun _ => ?_)
        refine tv_iload_n hG dX2_value_8 rfl rfl ?_
        refine tv_zif_lt (tgt := 27) hG dX2_value_9 (by decide) (fun q => absurd (Int32.lt_trans hx7 q) (by decide)) (fun _ => ?_)
        refine tv_iload_n hG dX2_value_12 rfl rfl ?_
        refine tv_bipush (x := nI 80) hG dX2_value_13 rfl ?_
        refine tv_zicmp_gt (tgt := 27) hG dX2_value_15 (by decide) (fun _ => ?_) (fun q => absurd (by rw [show nI 80 = 80 by decide]; exact hx7) q)
        refine tv_iconst (x := -1) hG dX2_value_27 rfl ?_
        exact hret _ _ _ _ dX2_value_28 ⟨Or.inr ⟨rfl, fun q => by obtain ⟨f1, k1, q1, q2, q3, q4, q5⟩ := q; exact tv_bad_r (M := 80) (m := 80) (by decide) (by decide) (Or.inr hx7) q3 q4⟩, fun _ _ => rfl⟩
    · have hnc : ¬ ∃ q, q < 2 ∧ nI f = nI q ∧ tv_CP t n q := fun q => by obtain ⟨q, q1, q2, q3⟩ := q; have e1 : f = q := tv_inj (by omega) (by omega) q2; subst e1; exact hcp q3
      refine tv_aload_n hG dX2_value_0 rfl rfl ?_
      refine tv_iload_n hG dX2_value_1 rfl rfl ?_
      refine tv_callxI (As := [.int (nI f)]) (st := []) hG (tv_cM_complete_n l D h d σ t n lg (nI f) hM hGS hnc) q267 q268 q269 q23 q270 (ci := 1) rfl rfl 1 (by decide +kernel) rfl rfl ⟨Nat.le_of_ble_eq_true rfl, Nat.le_of_ble_eq_true rfl⟩ rfl rfl (Nat.le_of_ble_eq_true rfl) dX2_value_2 ?_
      refine tv_if_eq (tgt := 27) hG dX2_value_5 (by decide) (by omega) (fun _ => ?_) (fun q => absurd q (by decide))
      refine tv_iconst (x := -1) hG dX2_value_27 rfl ?_
      exact hret _ _ _ _ dX2_value_28 ⟨Or.inr ⟨rfl, fun q => by obtain ⟨f1, k1, q1, q2, q3, q4, q5⟩ := q; exact hnc ⟨f1, q1, q2, q5⟩⟩, fun _ _ => rfl⟩
  · have hnc : ¬ ∃ q, q < 2 ∧ g = nI q ∧ tv_CP t n q := fun q => by obtain ⟨q, q1, q2, q3⟩ := q; exact tv_bad_f hbadf q1 q2
    refine tv_aload_n hG dX2_value_0 rfl rfl ?_
    refine tv_iload_n hG dX2_value_1 rfl rfl ?_
    refine tv_callxI (As := [.int g]) (st := []) hG (tv_cM_complete_n l D h d σ t n lg g hM hGS hnc) q267 q268 q269 q23 q270 (ci := 1) rfl rfl 1 (by decide +kernel) rfl rfl ⟨Nat.le_of_ble_eq_true rfl, Nat.le_of_ble_eq_true rfl⟩ rfl rfl (Nat.le_of_ble_eq_true rfl) dX2_value_2 ?_
    refine tv_if_eq (tgt := 27) hG dX2_value_5 (by decide) (by omega) (fun _ => ?_) (fun q => absurd q (by decide))
    refine tv_iconst (x := -1) hG dX2_value_27 rfl ?_
    exact hret _ _ _ _ dX2_value_28 ⟨Or.inr ⟨rfl, fun q => by obtain ⟨f1, k1, q1, q2, q3, q4, q5⟩ := q; exact hnc ⟨f1, q1, q2, q5⟩⟩, fun _ _ => rfl⟩
set_option maxHeartbeats 4000000 in
theorem tv_cM_find (l : Launch) (D : va_G) (h : Nat → Nat) (d : Nat → ClassId) (σ : tv_M) (t n : Nat → Nat) (lg : Nat) (g v : Int32) (hM : tv_isM σ t n lg) (hGS : tv_GS t n lg) : tv_CI l yX2_find cX2_find 4 (some .int) ({ frames := 2, cells := 0, slots := 0, locals := 49 } : Room) D (tv_tM d) (tv_wM h d) [.ref (h 20), .int g, .int v] σ (fun z τ => tv_pFind t n lg g v z ∧ ∀ q, q ≠ 23 → τ q = σ q) := by
  refine tv_inI (own := RX2) (by decide) rfl (by simp [Value.category]) (Nat.le_of_ble_eq_true rfl) ?_
  intro G hG hret
  rcases tv_fcase g with ⟨f, hf, rfl⟩ | hbadf
  · by_cases hcp : tv_CP t n f
    · refine tv_iconst (x := nI 0) hG dX2_find_0 rfl ?_
      refine tv_istore_n (vs1 := [.ref (h 20), .int (nI f), .int v, .int (nI 0)]) hG dX2_find_1 rfl (by decide) (Nat.le_of_ble_eq_true rfl) rfl ?_
      have loop : ∀ (m k : Nat) (ρ : tv_M), k + m = 81 → tv_isM ρ t n lg → (∀ q, q ≠ 23 → ρ q = σ q) → (∀ j, j < k → ¬ nI (tv_EV t n lg f j) = v) → G 2 [.ref (h 20), .int (nI f), .int v, .int (nI k)] [] ρ := by
        intro m
        induction m with
        | zero =>
          intro k ρ hk hMρ hfr hI
          refine tv_iload_n hG dX2_find_2 rfl rfl ?_
          refine tv_bipush (x := nI 80) hG dX2_find_3 rfl ?_
          refine tv_icmp_gt (tgt := 34) hG dX2_find_5 (by decide) (by omega) (by omega) (fun _ => ?_) (fun q => by exfalso; omega)
          refine tv_iconst (x := -1) hG dX2_find_34 rfl ?_
          exact hret _ _ _ _ dX2_find_35 ⟨Or.inl ⟨rfl, fun j hj q => hI j (by omega) ((tv_onef hf hcp).mp q)⟩, hfr⟩
        | succ m ih =>
          intro k ρ hk hMρ hfr hI
          refine tv_iload_n hG dX2_find_2 rfl rfl ?_
          refine tv_bipush (x := nI 80) hG dX2_find_3 rfl ?_
          refine tv_icmp_gt (tgt := 34) hG dX2_find_5 (by decide) (by omega) (by omega) (fun q => by exfalso; omega) (fun _ => ?_)
          refine tv_aload_n hG dX2_find_8 rfl rfl ?_
          refine tv_iload_n hG dX2_find_9 rfl rfl ?_
          refine tv_callxI (As := [.int (nI f)]) (st := []) hG (tv_cM_complete_t l D h d ρ t n lg f hMρ hGS hf hcp) q267 q268 q269 q23 q270 (ci := 1) rfl rfl 1 (by decide +kernel) rfl rfl ⟨Nat.le_of_ble_eq_true rfl, Nat.le_of_ble_eq_true rfl⟩ rfl rfl (Nat.le_of_ble_eq_true rfl) dX2_find_10 ?_
          refine tv_if_eq (tgt := 34) hG dX2_find_13 (by decide) (by omega) (fun q => absurd q (by decide)) (fun _ => ?_)
          refine tv_aload_n hG dX2_find_16 rfl rfl ?_
          refine tv_iload_n hG dX2_find_17 rfl rfl ?_
          refine tv_iload_n hG dX2_find_18 rfl rfl ?_
          refine tv_callI (As := [.int (nI f), .int (nI k)]) (st := []) hG (tv_cM_eval l D h d ρ t n lg f k hMρ hGS hf (by omega) hcp) q280 q282 qs17 q23 q283 (ci := 1) rfl rfl 2 (by decide +kernel) rfl rfl ⟨Nat.le_of_ble_eq_true rfl, Nat.le_of_ble_eq_true rfl⟩ rfl rfl (Nat.le_of_ble_eq_true rfl) dX2_find_19 (fun z τ1 hp => ?_)
          obtain ⟨rfl, he1⟩ := hp
          have hM1 := tv_isM_to hMρ he1
          have hfr1 : ∀ q, q ≠ 23 → τ1 q = σ q := fun q hq => (he1 q hq).trans (hfr q hq)
          have hE1 := tv_EV_lt hGS hf hcp k
          refine tv_iload_n hG dX2_find_22 rfl rfl ?_
          refine tv_zicmp_ne (tgt := 28) hG dX2_find_23 (by decide) (fun c1 => ?_) (fun c1 => ?_)
          · refine tv_iinc (y := nI (k + 1)) (vs1 := [.ref (h 20), .int (nI f), .int v, .int (nI (k + 1))]) hG dX2_find_28 rfl (nI_1 _) (by decide) rfl ?_
            refine tv_goto (tgt := 2) hG dX2_find_31 (by decide) ?_
            refine ih (k + 1) τ1 (by omega) hM1 hfr1 (fun j hj => ?_)
            rcases Nat.lt_or_ge j k with q | q
            · exact hI j q
            · rw [show j = k by omega]; exact c1
          · refine tv_iload_n hG dX2_find_26 rfl rfl ?_
            exact hret _ _ _ _ dX2_find_27 ⟨Or.inr ⟨k, by omega, rfl, (tv_onef hf hcp).mpr c1, fun j hj q => hI j hj ((tv_onef hf hcp).mp q)⟩, hfr1⟩
      exact loop 81 0 σ (by omega) hM (fun _ _ => rfl) (fun j hj => by omega)
    · have hnc : ¬ ∃ q, q < 2 ∧ nI f = nI q ∧ tv_CP t n q := fun q => by obtain ⟨q, q1, q2, q3⟩ := q; have e1 : f = q := tv_inj (by omega) (by omega) q2; subst e1; exact hcp q3
      refine tv_iconst (x := nI 0) hG dX2_find_0 rfl ?_
      refine tv_istore_n (vs1 := [.ref (h 20), .int (nI f), .int v, .int (nI 0)]) hG dX2_find_1 rfl (by decide) (Nat.le_of_ble_eq_true rfl) rfl ?_
      refine tv_iload_n hG dX2_find_2 rfl rfl ?_
      refine tv_bipush (x := nI 80) hG dX2_find_3 rfl ?_
      refine tv_icmp_gt (tgt := 34) hG dX2_find_5 (by decide) (by omega) (by omega) (fun q => absurd q (by decide)) (fun _ => ?_)
      refine tv_aload_n hG dX2_find_8 rfl rfl ?_
      refine tv_iload_n hG dX2_find_9 rfl rfl ?_
      refine tv_callxI (As := [.int (nI f)]) (st := []) hG (tv_cM_complete_n l D h d σ t n lg (nI f) hM hGS hnc) q267 q268 q269 q23 q270 (ci := 1) rfl rfl 1 (by decide +kernel) rfl rfl ⟨Nat.le_of_ble_eq_true rfl, Nat.le_of_ble_eq_true rfl⟩ rfl rfl (Nat.le_of_ble_eq_true rfl) dX2_find_10 ?_
      refine tv_if_eq (tgt := 34) hG dX2_find_13 (by decide) (by omega) (fun _ => ?_) (fun q => absurd q (by decide))
      refine tv_iconst (x := -1) hG dX2_find_34 rfl ?_
      exact hret _ _ _ _ dX2_find_35 ⟨tv_Lst_no (fun k q => by obtain ⟨f1, q1, q2, q3, q4⟩ := q; exact hnc ⟨f1, q1, q2, q3⟩), fun _ _ => rfl⟩
  · have hnc : ¬ ∃ q, q < 2 ∧ g = nI q ∧ tv_CP t n q := fun q => by obtain ⟨q, q1, q2, q3⟩ := q; exact tv_bad_f hbadf q1 q2
    refine tv_iconst (x := nI 0) hG dX2_find_0 rfl ?_
    refine tv_istore_n (vs1 := [.ref (h 20), .int g, .int v, .int (nI 0)]) hG dX2_find_1 rfl (by decide) (Nat.le_of_ble_eq_true rfl) rfl ?_
    refine tv_iload_n hG dX2_find_2 rfl rfl ?_
    refine tv_bipush (x := nI 80) hG dX2_find_3 rfl ?_
    refine tv_icmp_gt (tgt := 34) hG dX2_find_5 (by decide) (by omega) (by omega) (fun q => absurd q (by decide)) (fun _ => ?_)
    refine tv_aload_n hG dX2_find_8 rfl rfl ?_
    refine tv_iload_n hG dX2_find_9 rfl rfl ?_
    refine tv_callxI (As := [.int g]) (st := []) hG (tv_cM_complete_n l D h d σ t n lg g hM hGS hnc) q267 q268 q269 q23 q270 (ci := 1) rfl rfl 1 (by decide +kernel) rfl rfl ⟨Nat.le_of_ble_eq_true rfl, Nat.le_of_ble_eq_true rfl⟩ rfl rfl (Nat.le_of_ble_eq_true rfl) dX2_find_10 ?_
    refine tv_if_eq (tgt := 34) hG dX2_find_13 (by decide) (by omega) (fun _ => ?_) (fun q => absurd q (by decide))
    refine tv_iconst (x := -1) hG dX2_find_34 rfl ?_
    exact hret _ _ _ _ dX2_find_35 ⟨tv_Lst_no (fun k q => by obtain ⟨f1, q1, q2, q3, q4⟩ := q; exact hnc ⟨f1, q1, q2, q3⟩), fun _ _ => rfl⟩
set_option maxHeartbeats 4000000 in
theorem tv_cM_values (l : Launch) (D : va_G) (h : Nat → Nat) (d : Nat → ClassId) (σ : tv_M) (t n : Nat → Nat) (lg : Nat) (g : Int32) (hM : tv_isM σ t n lg) (hGS : tv_GS t n lg) : tv_CI l yX2_values cX2_values 4 (some .int) ({ frames := 2, cells := 0, slots := 0, locals := 49 } : Room) D (tv_tM d) (tv_wM h d) [.ref (h 20), .int g] σ (fun z τ => tv_pVs t n lg g z ∧ ∀ q, q ≠ 23 → τ q = σ q) := by
  refine tv_inI (own := RX2) (by decide) rfl (by simp [Value.category]) (Nat.le_of_ble_eq_true rfl) ?_
  intro G hG hret
  rcases tv_fcase g with ⟨f, hf, rfl⟩ | hbadf
  · by_cases hcp : tv_CP t n f
    · refine tv_iconst (x := nI 0) hG dX2_values_0 rfl ?_
      refine tv_istore_n (vs1 := [.ref (h 20), .int (nI f), .int (nI 0)]) hG dX2_values_1 rfl (by decide) (Nat.le_of_ble_eq_true rfl) rfl ?_
      refine tv_iconst (x := nI 0) hG dX2_values_2 rfl ?_
      refine tv_istore_n (vs1 := [.ref (h 20), .int (nI f), .int (nI 0), .int (nI 0)]) hG dX2_values_3 rfl (by decide) (Nat.le_of_ble_eq_true rfl) rfl ?_
      have loop : ∀ (m k s : Nat) (ρ : tv_M), k + m = 81 → tv_isM ρ t n lg → (∀ q, q ≠ 23 → ρ q = σ q) → (s < 8 ∧ ∀ x, x < 3 → (s.testBit x = true ↔ ∃ j, j < k ∧ tv_EV t n lg f j = x)) → G 4 [.ref (h 20), .int (nI f), .int (nI s), .int (nI k)] [] ρ := by
        intro m
        induction m with
        | zero =>
          intro k s ρ hk hMρ hfr hI
          refine tv_iload_n hG dX2_values_4 rfl rfl ?_
          refine tv_bipush (x := nI 80) hG dX2_values_5 rfl ?_
          refine tv_icmp_gt (tgt := 35) hG dX2_values_7 (by decide) (by omega) (by omega) (fun _ => ?_) (fun q => by exfalso; omega)
          refine tv_iload_n hG dX2_values_35 rfl rfl ?_
          refine hret _ _ _ _ dX2_values_36 ⟨⟨s, hI.1, rfl, fun x hx => ?_⟩, hfr⟩
          rw [hI.2 x hx]
          constructor
          · rintro ⟨j, j1, j2⟩; exact ⟨j, f, by omega, hf, rfl, hcp, j2⟩
          · rintro ⟨j, f1, k1, q1, q2, q3, q4⟩; have e : f = f1 := tv_inj (by omega) (by omega) q2; subst e; exact ⟨j, by omega, q4⟩
        | succ m ih =>
          intro k s ρ hk hMρ hfr hI
          refine tv_iload_n hG dX2_values_4 rfl rfl ?_
          refine tv_bipush (x := nI 80) hG dX2_values_5 rfl ?_
          refine tv_icmp_gt (tgt := 35) hG dX2_values_7 (by decide) (by omega) (by omega) (fun q => by exfalso; omega) (fun _ => ?_)
          refine tv_aload_n hG dX2_values_10 rfl rfl ?_
          refine tv_iload_n hG dX2_values_11 rfl rfl ?_
          refine tv_callxI (As := [.int (nI f)]) (st := []) hG (tv_cM_complete_t l D h d ρ t n lg f hMρ hGS hf hcp) q267 q268 q269 q23 q270 (ci := 1) rfl rfl 1 (by decide +kernel) rfl rfl ⟨Nat.le_of_ble_eq_true rfl, Nat.le_of_ble_eq_true rfl⟩ rfl rfl (Nat.le_of_ble_eq_true rfl) dX2_values_12 ?_
          refine tv_if_eq (tgt := 35) hG dX2_values_15 (by decide) (by omega) (fun q => absurd q (by decide)) (fun _ => ?_)
          refine tv_iload_n hG dX2_values_18 rfl rfl ?_
          refine tv_iconst (x := nI 1) hG dX2_values_19 rfl ?_
          refine tv_aload_n hG dX2_values_20 rfl rfl ?_
          refine tv_iload_n hG dX2_values_21 rfl rfl ?_
          refine tv_iload_n hG dX2_values_22 rfl rfl ?_
          refine tv_callI (As := [.int (nI f), .int (nI k)]) (st := [.int (nI 1), .int (nI s)]) hG (tv_cM_eval l D h d ρ t n lg f k hMρ hGS hf (by omega) hcp) q280 q282 qs17 q23 q283 (ci := 1) rfl rfl 2 (by decide +kernel) rfl rfl ⟨Nat.le_of_ble_eq_true rfl, Nat.le_of_ble_eq_true rfl⟩ rfl rfl (Nat.le_of_ble_eq_true rfl) dX2_values_23 (fun z τ1 hp => ?_)
          obtain ⟨rfl, he1⟩ := hp
          have hM1 := tv_isM_to hMρ he1
          have hfr1 : ∀ q, q ≠ 23 → τ1 q = σ q := fun q hq => (he1 q hq).trans (hfr q hq)
          have hE1 := tv_EV_lt hGS hf hcp k
          refine tv_ishl hG dX2_values_26 (by omega) (tv_shlt (by omega) (by omega)) ?_
          refine tv_ior hG dX2_values_27 ?_
          refine tv_istore_n (vs1 := [.ref (h 20), .int (nI f), .int (nI (s ||| (1 * 2 ^ (tv_EV t n lg f k)))), .int (nI k)]) hG dX2_values_28 rfl (by decide) (Nat.le_of_ble_eq_true rfl) rfl ?_
          refine tv_iinc (y := nI (k + 1)) (vs1 := [.ref (h 20), .int (nI f), .int (nI (s ||| (1 * 2 ^ (tv_EV t n lg f k)))), .int (nI (k + 1))]) hG dX2_values_29 rfl (nI_1 _) (by decide) rfl ?_
          refine tv_goto (tgt := 4) hG dX2_values_32 (by decide) ?_
          obtain ⟨o8, ob⟩ := tv_bits2 s hI.1 (tv_EV t n lg f k) hE1
          refine ih (k + 1) _ τ1 (by omega) hM1 hfr1 ⟨o8, fun x hx => ?_⟩
          rw [ob x hx, hI.2 x hx]
          constructor
          · rintro (⟨j, j1, j2⟩ | e)
            · exact ⟨j, by omega, j2⟩
            · exact ⟨k, by omega, e.symm⟩
          · rintro ⟨j, j1, j2⟩
            rcases Nat.lt_or_ge j k with q | q
            · exact Or.inl ⟨j, q, j2⟩
            · rw [show j = k by omega] at j2; exact Or.inr j2.symm
      exact loop 81 0 0 σ (by omega) hM (fun _ _ => rfl) ⟨by decide, fun x _ => ⟨fun q => by simp at q, fun q => by obtain ⟨j, j1, j2⟩ := q; omega⟩⟩
    · have hnc : ¬ ∃ q, q < 2 ∧ nI f = nI q ∧ tv_CP t n q := fun q => by obtain ⟨q, q1, q2, q3⟩ := q; have e1 : f = q := tv_inj (by omega) (by omega) q2; subst e1; exact hcp q3
      refine tv_iconst (x := nI 0) hG dX2_values_0 rfl ?_
      refine tv_istore_n (vs1 := [.ref (h 20), .int (nI f), .int (nI 0)]) hG dX2_values_1 rfl (by decide) (Nat.le_of_ble_eq_true rfl) rfl ?_
      refine tv_iconst (x := nI 0) hG dX2_values_2 rfl ?_
      refine tv_istore_n (vs1 := [.ref (h 20), .int (nI f), .int (nI 0), .int (nI 0)]) hG dX2_values_3 rfl (by decide) (Nat.le_of_ble_eq_true rfl) rfl ?_
      refine tv_iload_n hG dX2_values_4 rfl rfl ?_
      refine tv_bipush (x := nI 80) hG dX2_values_5 rfl ?_
      refine tv_icmp_gt (tgt := 35) hG dX2_values_7 (by decide) (by omega) (by omega) (fun q => absurd q (by decide)) (fun _ => ?_)
      refine tv_aload_n hG dX2_values_10 rfl rfl ?_
      refine tv_iload_n hG dX2_values_11 rfl rfl ?_
      refine tv_callxI (As := [.int (nI f)]) (st := []) hG (tv_cM_complete_n l D h d σ t n lg (nI f) hM hGS hnc) q267 q268 q269 q23 q270 (ci := 1) rfl rfl 1 (by decide +kernel) rfl rfl ⟨Nat.le_of_ble_eq_true rfl, Nat.le_of_ble_eq_true rfl⟩ rfl rfl (Nat.le_of_ble_eq_true rfl) dX2_values_12 ?_
      refine tv_if_eq (tgt := 35) hG dX2_values_15 (by decide) (by omega) (fun _ => ?_) (fun q => absurd q (by decide))
      refine tv_iload_n hG dX2_values_35 rfl rfl ?_
      exact hret _ _ _ _ dX2_values_36 ⟨⟨0, by decide, rfl, fun v _ => ⟨fun q => by simp at q, fun q => by obtain ⟨k, f1, q0, q1, q2, q3, q4⟩ := q; exact absurd ⟨f1, q1, q2, q3⟩ hnc⟩⟩, fun _ _ => rfl⟩
  · have hnc : ¬ ∃ q, q < 2 ∧ g = nI q ∧ tv_CP t n q := fun q => by obtain ⟨q, q1, q2, q3⟩ := q; exact tv_bad_f hbadf q1 q2
    refine tv_iconst (x := nI 0) hG dX2_values_0 rfl ?_
    refine tv_istore_n (vs1 := [.ref (h 20), .int g, .int (nI 0)]) hG dX2_values_1 rfl (by decide) (Nat.le_of_ble_eq_true rfl) rfl ?_
    refine tv_iconst (x := nI 0) hG dX2_values_2 rfl ?_
    refine tv_istore_n (vs1 := [.ref (h 20), .int g, .int (nI 0), .int (nI 0)]) hG dX2_values_3 rfl (by decide) (Nat.le_of_ble_eq_true rfl) rfl ?_
    refine tv_iload_n hG dX2_values_4 rfl rfl ?_
    refine tv_bipush (x := nI 80) hG dX2_values_5 rfl ?_
    refine tv_icmp_gt (tgt := 35) hG dX2_values_7 (by decide) (by omega) (by omega) (fun q => absurd q (by decide)) (fun _ => ?_)
    refine tv_aload_n hG dX2_values_10 rfl rfl ?_
    refine tv_iload_n hG dX2_values_11 rfl rfl ?_
    refine tv_callxI (As := [.int g]) (st := []) hG (tv_cM_complete_n l D h d σ t n lg g hM hGS hnc) q267 q268 q269 q23 q270 (ci := 1) rfl rfl 1 (by decide +kernel) rfl rfl ⟨Nat.le_of_ble_eq_true rfl, Nat.le_of_ble_eq_true rfl⟩ rfl rfl (Nat.le_of_ble_eq_true rfl) dX2_values_12 ?_
    refine tv_if_eq (tgt := 35) hG dX2_values_15 (by decide) (by omega) (fun _ => ?_) (fun q => absurd q (by decide))
    refine tv_iload_n hG dX2_values_35 rfl rfl ?_
    exact hret _ _ _ _ dX2_values_36 ⟨⟨0, by decide, rfl, fun v _ => ⟨fun q => by simp at q, fun q => by obtain ⟨k, f1, q0, q1, q2, q3, q4⟩ := q; exact absurd ⟨f1, q1, q2, q3⟩ hnc⟩⟩, fun _ _ => rfl⟩
theorem tv_vs_4 {t n : Nat → Nat} {lg : Nat} {g : Int32} {s : Nat} (hGS : tv_GS t n lg) (h8 : s < 8) (hs : ∀ v, v < 3 → (s.testBit v = true ↔ ∃ k f, k ≤ 80 ∧ f < 2 ∧ g = nI f ∧ tv_CP t n f ∧ tv_EV t n lg f k = v)) : s = 4 ↔ ∃ f, f < 2 ∧ g = nI f ∧ tv_CP t n f ∧ ∀ k, k ≤ 80 → tv_EV t n lg f k = 2 := by
  constructor
  · intro e
    subst e
    obtain ⟨k, f, k1, f1, f2, f3, f4⟩ := (hs 2 (by decide)).mp (by decide)
    refine ⟨f, f1, f2, f3, fun j hj => ?_⟩
    have h3 := tv_EV_lt hGS f1 f3 j
    have := (hs _ h3).mpr ⟨j, f, hj, f1, f2, f3, rfl⟩
    exact (tv_4bit _ h3).mp this
  · rintro ⟨f, f1, f2, f3, f4⟩
    refine tv_set_ext s h8 4 (by decide) (fun x hx => ?_)
    have e : (s.testBit x = true) ↔ (Nat.testBit 4 x = true) := by
      rw [hs x hx, tv_4bit x hx]
      constructor
      · rintro ⟨k, q, k1, q1, q2, q3, q4⟩
        have e1 : f = q := tv_inj (by omega) (by omega) (f2.symm.trans q2)
        subst e1
        rw [← q4]
        exact f4 k k1
      · rintro rfl
        exact ⟨0, f, by decide, f1, f2, f3, f4 0 (by decide)⟩
    cases h1 : s.testBit x <;> cases h2 : Nat.testBit 4 x <;> simp_all
set_option maxHeartbeats 4000000 in
theorem tv_cM_valid (l : Launch) (D : va_G) (h : Nat → Nat) (d : Nat → ClassId) (σ : tv_M) (t n : Nat → Nat) (lg : Nat) (g : Int32) (hM : tv_isM σ t n lg) (hGS : tv_GS t n lg) : tv_CI l yX2_valid cX2_valid 2 (some .boolean) ({ frames := 3, cells := 0, slots := 0, locals := 72 } : Room) D (tv_tM d) (tv_wM h d) [.ref (h 20), .int g] σ (fun z τ => tv_pValid t n lg g z ∧ ∀ q, q ≠ 23 → τ q = σ q) := by
  refine tv_inZ (own := RX2) (by decide) rfl (by simp [Value.category]) (Nat.le_of_ble_eq_true rfl) ?_
  intro G hG hret
  refine tv_aload_n hG dX2_valid_0 rfl rfl ?_
  refine tv_iload_n hG dX2_valid_1 rfl rfl ?_
  refine tv_callI (As := [.int g]) (st := []) hG (tv_cM_values l D h d σ t n lg g hM hGS) q308 q301 q302 q23 q303 (ci := 1) rfl rfl 1 (by decide +kernel) rfl rfl ⟨Nat.le_of_ble_eq_true rfl, Nat.le_of_ble_eq_true rfl⟩ rfl rfl (Nat.le_of_ble_eq_true rfl) dX2_valid_2 (fun z τ hp => ?_)
  obtain ⟨⟨s, h8, rfl, hs⟩, hfr⟩ := hp
  have h4 := tv_vs_4 hGS h8 hs
  refine tv_iconst (x := nI 4) hG dX2_valid_5 rfl ?_
  refine tv_icmp_ne (tgt := 13) hG dX2_valid_6 (by decide) (by omega) (by omega) (fun c1 => ?_) (fun c1 => ?_)
  · refine tv_iconst (x := nI 0) hG dX2_valid_13 rfl ?_
    exact hret _ _ _ _ dX2_valid_14 (by decide) ⟨Or.inr ⟨rfl, fun q => c1 (h4.mpr q)⟩, hfr⟩
  · refine tv_iconst (x := nI 1) hG dX2_valid_9 rfl ?_
    refine tv_goto (tgt := 14) hG dX2_valid_10 (by decide) ?_
    exact hret _ _ _ _ dX2_valid_14 (by decide) ⟨Or.inl ⟨rfl, h4.mp c1⟩, hfr⟩
set_option maxHeartbeats 4000000 in
theorem tv_cM_findBoth (l : Launch) (D : va_G) (h : Nat → Nat) (d : Nat → ClassId) (σ : tv_M) (t n : Nat → Nat) (lg : Nat) (v u : Int32) (hM : tv_isM σ t n lg) (hGS : tv_GS t n lg) : tv_CI l yX2_findBoth cX2_findBoth 4 (some .int) ({ frames := 2, cells := 0, slots := 0, locals := 49 } : Room) D (tv_tM d) (tv_wM h d) [.ref (h 20), .int v, .int u] σ (fun z τ => tv_pBoth t n lg v u z ∧ ∀ q, q ≠ 23 → τ q = σ q) := by
  refine tv_inI (own := RX2) (by decide) rfl (by simp [Value.category]) (Nat.le_of_ble_eq_true rfl) ?_
  intro G hG hret
  by_cases hc0 : tv_CP t n 0
  · by_cases hc1 : tv_CP t n 1
    · refine tv_iconst (x := nI 0) hG dX2_findBoth_0 rfl ?_
      refine tv_istore_n (vs1 := [.ref (h 20), .int v, .int u, .int (nI 0)]) hG dX2_findBoth_1 rfl (by decide) (Nat.le_of_ble_eq_true rfl) rfl ?_
      have loop : ∀ (m k : Nat) (ρ : tv_M), k + m = 81 → tv_isM ρ t n lg → (∀ q, q ≠ 23 → ρ q = σ q) → (∀ j, j < k → ¬ (tv_CP t n 0 ∧ tv_CP t n 1 ∧ nI (tv_EV t n lg 0 j) = v ∧ nI (tv_EV t n lg 1 j) = u)) → G 2 [.ref (h 20), .int v, .int u, .int (nI k)] [] ρ := by
        intro m
        induction m with
        | zero =>
          intro k ρ hk hMρ hfr hI
          refine tv_iload_n hG dX2_findBoth_2 rfl rfl ?_
          refine tv_bipush (x := nI 80) hG dX2_findBoth_3 rfl ?_
          refine tv_icmp_gt (tgt := 52) hG dX2_findBoth_5 (by decide) (by omega) (by omega) (fun _ => ?_) (fun q => by exfalso; omega)
          refine tv_iconst (x := -1) hG dX2_findBoth_52 rfl ?_
          exact hret _ _ _ _ dX2_findBoth_53 ⟨Or.inl ⟨rfl, fun j hj q => hI j (by omega) q⟩, hfr⟩
        | succ m ih =>
          intro k ρ hk hMρ hfr hI
          refine tv_iload_n hG dX2_findBoth_2 rfl rfl ?_
          refine tv_bipush (x := nI 80) hG dX2_findBoth_3 rfl ?_
          refine tv_icmp_gt (tgt := 52) hG dX2_findBoth_5 (by decide) (by omega) (by omega) (fun q => by exfalso; omega) (fun _ => ?_)
          refine tv_aload_n hG dX2_findBoth_8 rfl rfl ?_
          refine tv_iconst (x := nI 0) hG dX2_findBoth_9 rfl ?_
          refine tv_callxI (As := [.int (nI 0)]) (st := []) hG (tv_cM_complete_t l D h d ρ t n lg 0 hMρ hGS (by decide) hc0) q267 q268 q269 q23 q270 (ci := 1) rfl rfl 1 (by decide +kernel) rfl rfl ⟨Nat.le_of_ble_eq_true rfl, Nat.le_of_ble_eq_true rfl⟩ rfl rfl (Nat.le_of_ble_eq_true rfl) dX2_findBoth_10 ?_
          refine tv_if_eq (tgt := 52) hG dX2_findBoth_13 (by decide) (by omega) (fun q => absurd q (by decide)) (fun _ => ?_)
          refine tv_aload_n hG dX2_findBoth_16 rfl rfl ?_
          refine tv_iconst (x := nI 1) hG dX2_findBoth_17 rfl ?_
          refine tv_callxI (As := [.int (nI 1)]) (st := []) hG (tv_cM_complete_t l D h d ρ t n lg 1 hMρ hGS (by decide) hc1) q267 q268 q269 q23 q270 (ci := 1) rfl rfl 1 (by decide +kernel) rfl rfl ⟨Nat.le_of_ble_eq_true rfl, Nat.le_of_ble_eq_true rfl⟩ rfl rfl (Nat.le_of_ble_eq_true rfl) dX2_findBoth_18 ?_
          refine tv_if_eq (tgt := 52) hG dX2_findBoth_21 (by decide) (by omega) (fun q => absurd q (by decide)) (fun _ => ?_)
          refine tv_aload_n hG dX2_findBoth_24 rfl rfl ?_
          refine tv_iconst (x := nI 0) hG dX2_findBoth_25 rfl ?_
          refine tv_iload_n hG dX2_findBoth_26 rfl rfl ?_
          refine tv_callI (As := [.int (nI 0), .int (nI k)]) (st := []) hG (tv_cM_eval l D h d ρ t n lg 0 k hMρ hGS (by decide) (by omega) hc0) q280 q282 qs17 q23 q283 (ci := 1) rfl rfl 2 (by decide +kernel) rfl rfl ⟨Nat.le_of_ble_eq_true rfl, Nat.le_of_ble_eq_true rfl⟩ rfl rfl (Nat.le_of_ble_eq_true rfl) dX2_findBoth_27 (fun z τ1 hp => ?_)
          obtain ⟨rfl, he1⟩ := hp
          have hM1 := tv_isM_to hMρ he1
          have hfr1 : ∀ q, q ≠ 23 → τ1 q = σ q := fun q hq => (he1 q hq).trans (hfr q hq)
          have hE1 := tv_EV_lt hGS (by decide) hc0 k
          refine tv_iload_n hG dX2_findBoth_30 rfl rfl ?_
          refine tv_zicmp_ne (tgt := 46) hG dX2_findBoth_31 (by decide) (fun c1 => ?_) (fun c1 => ?_)
          · refine tv_iinc (y := nI (k + 1)) (vs1 := [.ref (h 20), .int v, .int u, .int (nI (k + 1))]) hG dX2_findBoth_46 rfl (nI_1 _) (by decide) rfl ?_
            refine tv_goto (tgt := 2) hG dX2_findBoth_49 (by decide) ?_
            refine ih (k + 1) τ1 (by omega) hM1 hfr1 (fun j hj => ?_)
            rcases Nat.lt_or_ge j k with q | q
            · exact hI j q
            · rw [show j = k by omega]; exact fun q => c1 q.2.2.1
          · refine tv_aload_n hG dX2_findBoth_34 rfl rfl ?_
            refine tv_iconst (x := nI 1) hG dX2_findBoth_35 rfl ?_
            refine tv_iload_n hG dX2_findBoth_36 rfl rfl ?_
            refine tv_callI (As := [.int (nI 1), .int (nI k)]) (st := []) hG (tv_cM_eval l D h d τ1 t n lg 1 k hM1 hGS (by decide) (by omega) hc1) q280 q282 qs17 q23 q283 (ci := 1) rfl rfl 2 (by decide +kernel) rfl rfl ⟨Nat.le_of_ble_eq_true rfl, Nat.le_of_ble_eq_true rfl⟩ rfl rfl (Nat.le_of_ble_eq_true rfl) dX2_findBoth_37 (fun z τ2 hp => ?_)
            obtain ⟨rfl, he2⟩ := hp
            have hM2 := tv_isM_to hM1 he2
            have hfr2 : ∀ q, q ≠ 23 → τ2 q = σ q := fun q hq => (he2 q hq).trans (hfr1 q hq)
            have hE2 := tv_EV_lt hGS (by decide) hc1 k
            refine tv_iload_n hG dX2_findBoth_40 rfl rfl ?_
            refine tv_zicmp_ne (tgt := 46) hG dX2_findBoth_41 (by decide) (fun c2 => ?_) (fun c2 => ?_)
            · refine tv_iinc (y := nI (k + 1)) (vs1 := [.ref (h 20), .int v, .int u, .int (nI (k + 1))]) hG dX2_findBoth_46 rfl (nI_1 _) (by decide) rfl ?_
              refine tv_goto (tgt := 2) hG dX2_findBoth_49 (by decide) ?_
              refine ih (k + 1) τ2 (by omega) hM2 hfr2 (fun j hj => ?_)
              rcases Nat.lt_or_ge j k with q | q
              · exact hI j q
              · rw [show j = k by omega]; exact fun q => c2 q.2.2.2
            · refine tv_iload_n hG dX2_findBoth_44 rfl rfl ?_
              exact hret _ _ _ _ dX2_findBoth_45 ⟨Or.inr ⟨k, by omega, rfl, ⟨hc0, hc1, c1, c2⟩, fun j hj q => hI j hj q⟩, hfr2⟩
      exact loop 81 0 σ (by omega) hM (fun _ _ => rfl) (fun j hj => by omega)
    · have hnc : ¬ ∃ q, q < 2 ∧ nI 1 = nI q ∧ tv_CP t n q := fun q => by obtain ⟨q, q1, q2, q3⟩ := q; have e1 : 1 = q := tv_inj (by omega) (by omega) q2; subst e1; exact hc1 q3
      refine tv_iconst (x := nI 0) hG dX2_findBoth_0 rfl ?_
      refine tv_istore_n (vs1 := [.ref (h 20), .int v, .int u, .int (nI 0)]) hG dX2_findBoth_1 rfl (by decide) (Nat.le_of_ble_eq_true rfl) rfl ?_
      refine tv_iload_n hG dX2_findBoth_2 rfl rfl ?_
      refine tv_bipush (x := nI 80) hG dX2_findBoth_3 rfl ?_
      refine tv_icmp_gt (tgt := 52) hG dX2_findBoth_5 (by decide) (by omega) (by omega) (fun q => absurd q (by decide)) (fun _ => ?_)
      refine tv_aload_n hG dX2_findBoth_8 rfl rfl ?_
      refine tv_iconst (x := nI 0) hG dX2_findBoth_9 rfl ?_
      refine tv_callxI (As := [.int (nI 0)]) (st := []) hG (tv_cM_complete_t l D h d σ t n lg 0 hM hGS (by decide) hc0) q267 q268 q269 q23 q270 (ci := 1) rfl rfl 1 (by decide +kernel) rfl rfl ⟨Nat.le_of_ble_eq_true rfl, Nat.le_of_ble_eq_true rfl⟩ rfl rfl (Nat.le_of_ble_eq_true rfl) dX2_findBoth_10 ?_
      refine tv_if_eq (tgt := 52) hG dX2_findBoth_13 (by decide) (by omega) (fun q => absurd q (by decide)) (fun _ => ?_)
      refine tv_aload_n hG dX2_findBoth_16 rfl rfl ?_
      refine tv_iconst (x := nI 1) hG dX2_findBoth_17 rfl ?_
      refine tv_callxI (As := [.int (nI 1)]) (st := []) hG (tv_cM_complete_n l D h d σ t n lg (nI 1) hM hGS hnc) q267 q268 q269 q23 q270 (ci := 1) rfl rfl 1 (by decide +kernel) rfl rfl ⟨Nat.le_of_ble_eq_true rfl, Nat.le_of_ble_eq_true rfl⟩ rfl rfl (Nat.le_of_ble_eq_true rfl) dX2_findBoth_18 ?_
      refine tv_if_eq (tgt := 52) hG dX2_findBoth_21 (by decide) (by omega) (fun _ => ?_) (fun q => absurd q (by decide))
      refine tv_iconst (x := -1) hG dX2_findBoth_52 rfl ?_
      exact hret _ _ _ _ dX2_findBoth_53 ⟨tv_Lst_no (fun k q => hc1 q.2.1), fun _ _ => rfl⟩
  · have hnc : ¬ ∃ q, q < 2 ∧ nI 0 = nI q ∧ tv_CP t n q := fun q => by obtain ⟨q, q1, q2, q3⟩ := q; have e1 : 0 = q := tv_inj (by omega) (by omega) q2; subst e1; exact hc0 q3
    refine tv_iconst (x := nI 0) hG dX2_findBoth_0 rfl ?_
    refine tv_istore_n (vs1 := [.ref (h 20), .int v, .int u, .int (nI 0)]) hG dX2_findBoth_1 rfl (by decide) (Nat.le_of_ble_eq_true rfl) rfl ?_
    refine tv_iload_n hG dX2_findBoth_2 rfl rfl ?_
    refine tv_bipush (x := nI 80) hG dX2_findBoth_3 rfl ?_
    refine tv_icmp_gt (tgt := 52) hG dX2_findBoth_5 (by decide) (by omega) (by omega) (fun q => absurd q (by decide)) (fun _ => ?_)
    refine tv_aload_n hG dX2_findBoth_8 rfl rfl ?_
    refine tv_iconst (x := nI 0) hG dX2_findBoth_9 rfl ?_
    refine tv_callxI (As := [.int (nI 0)]) (st := []) hG (tv_cM_complete_n l D h d σ t n lg (nI 0) hM hGS hnc) q267 q268 q269 q23 q270 (ci := 1) rfl rfl 1 (by decide +kernel) rfl rfl ⟨Nat.le_of_ble_eq_true rfl, Nat.le_of_ble_eq_true rfl⟩ rfl rfl (Nat.le_of_ble_eq_true rfl) dX2_findBoth_10 ?_
    refine tv_if_eq (tgt := 52) hG dX2_findBoth_13 (by decide) (by omega) (fun _ => ?_) (fun q => absurd q (by decide))
    refine tv_iconst (x := -1) hG dX2_findBoth_52 rfl ?_
    exact hret _ _ _ _ dX2_findBoth_53 ⟨tv_Lst_no (fun k q => hc0 q.1), fun _ _ => rfl⟩
set_option maxHeartbeats 4000000 in
theorem tv_cM_entails (l : Launch) (D : va_G) (h : Nat → Nat) (d : Nat → ClassId) (σ : tv_M) (t n : Nat → Nat) (lg : Nat) (hM : tv_isM σ t n lg) (hGS : tv_GS t n lg) : tv_CI l yX2_entails cX2_entails 3 (some .boolean) ({ frames := 2, cells := 0, slots := 0, locals := 49 } : Room) D (tv_tM d) (tv_wM h d) [.ref (h 20)] σ (fun z τ => tv_pEnt t n lg z ∧ ∀ q, q ≠ 23 → τ q = σ q) := by
  refine tv_inZ (own := RX2) (by decide) rfl (by simp [Value.category]) (Nat.le_of_ble_eq_true rfl) ?_
  intro G hG hret
  by_cases hc0 : tv_CP t n 0
  · by_cases hc1 : tv_CP t n 1
    · refine tv_aload_n hG dX2_entails_0 rfl rfl ?_
      refine tv_iconst (x := nI 0) hG dX2_entails_1 rfl ?_
      refine tv_callxI (As := [.int (nI 0)]) (st := []) hG (tv_cM_complete_t l D h d σ t n lg 0 hM hGS (by decide) hc0) q267 q268 q269 q23 q270 (ci := 1) rfl rfl 1 (by decide +kernel) rfl rfl ⟨Nat.le_of_ble_eq_true rfl, Nat.le_of_ble_eq_true rfl⟩ rfl rfl (Nat.le_of_ble_eq_true rfl) dX2_entails_2 ?_
      refine tv_if_eq (tgt := 20) hG dX2_entails_5 (by decide) (by omega) (fun q => absurd q (by decide)) (fun _ => ?_)
      refine tv_aload_n hG dX2_entails_8 rfl rfl ?_
      refine tv_iconst (x := nI 1) hG dX2_entails_9 rfl ?_
      refine tv_callxI (As := [.int (nI 1)]) (st := []) hG (tv_cM_complete_t l D h d σ t n lg 1 hM hGS (by decide) hc1) q267 q268 q269 q23 q270 (ci := 1) rfl rfl 1 (by decide +kernel) rfl rfl ⟨Nat.le_of_ble_eq_true rfl, Nat.le_of_ble_eq_true rfl⟩ rfl rfl (Nat.le_of_ble_eq_true rfl) dX2_entails_10 ?_
      refine tv_if_eq (tgt := 20) hG dX2_entails_13 (by decide) (by omega) (fun q => absurd q (by decide)) (fun _ => ?_)
      refine tv_iconst (x := nI 1) hG dX2_entails_16 rfl ?_
      refine tv_goto (tgt := 21) hG dX2_entails_17 (by decide) ?_
      refine tv_istore_n (vs1 := [.ref (h 20), .int (nI 1)]) hG dX2_entails_21 rfl (by decide) (Nat.le_of_ble_eq_true rfl) rfl ?_
      refine tv_iconst (x := nI 0) hG dX2_entails_22 rfl ?_
      refine tv_istore_n (vs1 := [.ref (h 20), .int (nI 1), .int (nI 0)]) hG dX2_entails_23 rfl (by decide) (Nat.le_of_ble_eq_true rfl) rfl ?_
      have loop : ∀ (m k : Nat) (ρ : tv_M), k + m = 81 → tv_isM ρ t n lg → (∀ q, q ≠ 23 → ρ q = σ q) → (∀ j, j < k → (tv_EV t n lg 0 j = 2 → tv_EV t n lg 1 j = 2)) → G 24 [.ref (h 20), .int (nI 1), .int (nI k)] [] ρ := by
        intro m
        induction m with
        | zero =>
          intro k ρ hk hMρ hfr hI
          refine tv_iload_n hG dX2_entails_24 rfl rfl ?_
          refine tv_bipush (x := nI 80) hG dX2_entails_25 rfl ?_
          refine tv_icmp_gt (tgt := 66) hG dX2_entails_27 (by decide) (by omega) (by omega) (fun _ => ?_) (fun q => by exfalso; omega)
          refine tv_iload_n hG dX2_entails_66 rfl rfl ?_
          exact hret _ _ _ _ dX2_entails_67 (by decide) ⟨Or.inl ⟨rfl, hc0, hc1, fun j hj => hI j (by omega)⟩, hfr⟩
        | succ m ih =>
          intro k ρ hk hMρ hfr hI
          refine tv_iload_n hG dX2_entails_24 rfl rfl ?_
          refine tv_bipush (x := nI 80) hG dX2_entails_25 rfl ?_
          refine tv_icmp_gt (tgt := 66) hG dX2_entails_27 (by decide) (by omega) (by omega) (fun q => by exfalso; omega) (fun _ => ?_)
          refine tv_iload_n hG dX2_entails_30 rfl rfl ?_
          refine tv_if_eq (tgt := 66) hG dX2_entails_31 (by decide) (by omega) (fun q => absurd q (by decide)) (fun _ => ?_)
          refine tv_aload_n hG dX2_entails_34 rfl rfl ?_
          refine tv_iconst (x := nI 0) hG dX2_entails_35 rfl ?_
          refine tv_iload_n hG dX2_entails_36 rfl rfl ?_
          refine tv_callI (As := [.int (nI 0), .int (nI k)]) (st := []) hG (tv_cM_eval l D h d ρ t n lg 0 k hMρ hGS (by decide) (by omega) hc0) q280 q282 qs17 q23 q283 (ci := 1) rfl rfl 2 (by decide +kernel) rfl rfl ⟨Nat.le_of_ble_eq_true rfl, Nat.le_of_ble_eq_true rfl⟩ rfl rfl (Nat.le_of_ble_eq_true rfl) dX2_entails_37 (fun z τ1 hp => ?_)
          obtain ⟨rfl, he1⟩ := hp
          have hM1 := tv_isM_to hMρ he1
          have hfr1 : ∀ q, q ≠ 23 → τ1 q = σ q := fun q hq => (he1 q hq).trans (hfr q hq)
          have hE1 := tv_EV_lt hGS (by decide) hc0 k
          refine tv_iconst (x := nI 2) hG dX2_entails_40 rfl ?_
          refine tv_icmp_ne (tgt := 54) hG dX2_entails_41 (by decide) (by omega) (by omega) (fun c1 => ?_) (fun c1 => ?_)
          · refine tv_iconst (x := nI 1) hG dX2_entails_54 rfl ?_
            refine tv_goto (tgt := 59) hG dX2_entails_55 (by decide) ?_
            refine tv_istore_n (vs1 := [.ref (h 20), .int (nI 1), .int (nI k)]) hG dX2_entails_59 rfl (by decide) (Nat.le_of_ble_eq_true rfl) rfl ?_
            refine tv_iinc (y := nI (k + 1)) (vs1 := [.ref (h 20), .int (nI 1), .int (nI (k + 1))]) hG dX2_entails_60 rfl (nI_1 _) (by decide) rfl ?_
            refine tv_goto (tgt := 24) hG dX2_entails_63 (by decide) ?_
            refine ih (k + 1) τ1 (by omega) hM1 hfr1 (fun j hj => ?_)
            rcases Nat.lt_or_ge j k with q | q
            · exact hI j q
            · rw [show j = k by omega]; intro _; omega
          · refine tv_aload_n hG dX2_entails_44 rfl rfl ?_
            refine tv_iconst (x := nI 1) hG dX2_entails_45 rfl ?_
            refine tv_iload_n hG dX2_entails_46 rfl rfl ?_
            refine tv_callI (As := [.int (nI 1), .int (nI k)]) (st := []) hG (tv_cM_eval l D h d τ1 t n lg 1 k hM1 hGS (by decide) (by omega) hc1) q280 q282 qs17 q23 q283 (ci := 1) rfl rfl 2 (by decide +kernel) rfl rfl ⟨Nat.le_of_ble_eq_true rfl, Nat.le_of_ble_eq_true rfl⟩ rfl rfl (Nat.le_of_ble_eq_true rfl) dX2_entails_47 (fun z τ2 hp => ?_)
            obtain ⟨rfl, he2⟩ := hp
            have hM2 := tv_isM_to hM1 he2
            have hfr2 : ∀ q, q ≠ 23 → τ2 q = σ q := fun q hq => (he2 q hq).trans (hfr1 q hq)
            have hE2 := tv_EV_lt hGS (by decide) hc1 k
            refine tv_iconst (x := nI 2) hG dX2_entails_50 rfl ?_
            refine tv_icmp_ne (tgt := 58) hG dX2_entails_51 (by decide) (by omega) (by omega) (fun c2 => ?_) (fun c2 => ?_)
            · refine tv_iconst (x := nI 0) hG dX2_entails_58 rfl ?_
              refine tv_istore_n (vs1 := [.ref (h 20), .int (nI 0), .int (nI k)]) hG dX2_entails_59 rfl (by decide) (Nat.le_of_ble_eq_true rfl) rfl ?_
              refine tv_iinc (y := nI (k + 1)) (vs1 := [.ref (h 20), .int (nI 0), .int (nI (k + 1))]) hG dX2_entails_60 rfl (nI_1 _) (by decide) rfl ?_
              refine tv_goto (tgt := 24) hG dX2_entails_63 (by decide) ?_
              refine tv_iload_n hG dX2_entails_24 rfl rfl ?_
              refine tv_bipush (x := nI 80) hG dX2_entails_25 rfl ?_
              refine tv_icmp_gt (tgt := 66) hG dX2_entails_27 (by decide) (by omega) (by omega) (fun c3 => ?_) (fun c3 => ?_)
              · refine tv_iload_n hG dX2_entails_66 rfl rfl ?_
                exact hret _ _ _ _ dX2_entails_67 (by decide) ⟨Or.inr ⟨rfl, fun q => by have q := q.2.2 k (by omega); exact c2 (q (by omega))⟩, hfr2⟩
              · refine tv_iload_n hG dX2_entails_30 rfl rfl ?_
                refine tv_if_eq (tgt := 66) hG dX2_entails_31 (by decide) (by omega) (fun _ => ?_) (fun q => absurd q (by decide))
                refine tv_iload_n hG dX2_entails_66 rfl rfl ?_
                exact hret _ _ _ _ dX2_entails_67 (by decide) ⟨Or.inr ⟨rfl, fun q => by have q := q.2.2 k (by omega); exact c2 (q (by omega))⟩, hfr2⟩
            · refine tv_iconst (x := nI 1) hG dX2_entails_54 rfl ?_
              refine tv_goto (tgt := 59) hG dX2_entails_55 (by decide) ?_
              refine tv_istore_n (vs1 := [.ref (h 20), .int (nI 1), .int (nI k)]) hG dX2_entails_59 rfl (by decide) (Nat.le_of_ble_eq_true rfl) rfl ?_
              refine tv_iinc (y := nI (k + 1)) (vs1 := [.ref (h 20), .int (nI 1), .int (nI (k + 1))]) hG dX2_entails_60 rfl (nI_1 _) (by decide) rfl ?_
              refine tv_goto (tgt := 24) hG dX2_entails_63 (by decide) ?_
              refine ih (k + 1) τ2 (by omega) hM2 hfr2 (fun j hj => ?_)
              rcases Nat.lt_or_ge j k with q | q
              · exact hI j q
              · rw [show j = k by omega]; intro _; omega
      exact loop 81 0 σ (by omega) hM (fun _ _ => rfl) (fun j hj => by omega)
    · have hnc : ¬ ∃ q, q < 2 ∧ nI 1 = nI q ∧ tv_CP t n q := fun q => by obtain ⟨q, q1, q2, q3⟩ := q; have e1 : 1 = q := tv_inj (by omega) (by omega) q2; subst e1; exact hc1 q3
      refine tv_aload_n hG dX2_entails_0 rfl rfl ?_
      refine tv_iconst (x := nI 0) hG dX2_entails_1 rfl ?_
      refine tv_callxI (As := [.int (nI 0)]) (st := []) hG (tv_cM_complete_t l D h d σ t n lg 0 hM hGS (by decide) hc0) q267 q268 q269 q23 q270 (ci := 1) rfl rfl 1 (by decide +kernel) rfl rfl ⟨Nat.le_of_ble_eq_true rfl, Nat.le_of_ble_eq_true rfl⟩ rfl rfl (Nat.le_of_ble_eq_true rfl) dX2_entails_2 ?_
      refine tv_if_eq (tgt := 20) hG dX2_entails_5 (by decide) (by omega) (fun q => absurd q (by decide)) (fun _ => ?_)
      refine tv_aload_n hG dX2_entails_8 rfl rfl ?_
      refine tv_iconst (x := nI 1) hG dX2_entails_9 rfl ?_
      refine tv_callxI (As := [.int (nI 1)]) (st := []) hG (tv_cM_complete_n l D h d σ t n lg (nI 1) hM hGS hnc) q267 q268 q269 q23 q270 (ci := 1) rfl rfl 1 (by decide +kernel) rfl rfl ⟨Nat.le_of_ble_eq_true rfl, Nat.le_of_ble_eq_true rfl⟩ rfl rfl (Nat.le_of_ble_eq_true rfl) dX2_entails_10 ?_
      refine tv_if_eq (tgt := 20) hG dX2_entails_13 (by decide) (by omega) (fun _ => ?_) (fun q => absurd q (by decide))
      refine tv_iconst (x := nI 0) hG dX2_entails_20 rfl ?_
      refine tv_istore_n (vs1 := [.ref (h 20), .int (nI 0)]) hG dX2_entails_21 rfl (by decide) (Nat.le_of_ble_eq_true rfl) rfl ?_
      refine tv_iconst (x := nI 0) hG dX2_entails_22 rfl ?_
      refine tv_istore_n (vs1 := [.ref (h 20), .int (nI 0), .int (nI 0)]) hG dX2_entails_23 rfl (by decide) (Nat.le_of_ble_eq_true rfl) rfl ?_
      refine tv_iload_n hG dX2_entails_24 rfl rfl ?_
      refine tv_bipush (x := nI 80) hG dX2_entails_25 rfl ?_
      refine tv_icmp_gt (tgt := 66) hG dX2_entails_27 (by decide) (by omega) (by omega) (fun q => absurd q (by decide)) (fun _ => ?_)
      refine tv_iload_n hG dX2_entails_30 rfl rfl ?_
      refine tv_if_eq (tgt := 66) hG dX2_entails_31 (by decide) (by omega) (fun _ => ?_) (fun q => absurd q (by decide))
      refine tv_iload_n hG dX2_entails_66 rfl rfl ?_
      exact hret _ _ _ _ dX2_entails_67 (by decide) ⟨Or.inr ⟨rfl, fun q => hc1 q.2.1⟩, fun _ _ => rfl⟩
  · have hnc : ¬ ∃ q, q < 2 ∧ nI 0 = nI q ∧ tv_CP t n q := fun q => by obtain ⟨q, q1, q2, q3⟩ := q; have e1 : 0 = q := tv_inj (by omega) (by omega) q2; subst e1; exact hc0 q3
    refine tv_aload_n hG dX2_entails_0 rfl rfl ?_
    refine tv_iconst (x := nI 0) hG dX2_entails_1 rfl ?_
    refine tv_callxI (As := [.int (nI 0)]) (st := []) hG (tv_cM_complete_n l D h d σ t n lg (nI 0) hM hGS hnc) q267 q268 q269 q23 q270 (ci := 1) rfl rfl 1 (by decide +kernel) rfl rfl ⟨Nat.le_of_ble_eq_true rfl, Nat.le_of_ble_eq_true rfl⟩ rfl rfl (Nat.le_of_ble_eq_true rfl) dX2_entails_2 ?_
    refine tv_if_eq (tgt := 20) hG dX2_entails_5 (by decide) (by omega) (fun _ => ?_) (fun q => absurd q (by decide))
    refine tv_iconst (x := nI 0) hG dX2_entails_20 rfl ?_
    refine tv_istore_n (vs1 := [.ref (h 20), .int (nI 0)]) hG dX2_entails_21 rfl (by decide) (Nat.le_of_ble_eq_true rfl) rfl ?_
    refine tv_iconst (x := nI 0) hG dX2_entails_22 rfl ?_
    refine tv_istore_n (vs1 := [.ref (h 20), .int (nI 0), .int (nI 0)]) hG dX2_entails_23 rfl (by decide) (Nat.le_of_ble_eq_true rfl) rfl ?_
    refine tv_iload_n hG dX2_entails_24 rfl rfl ?_
    refine tv_bipush (x := nI 80) hG dX2_entails_25 rfl ?_
    refine tv_icmp_gt (tgt := 66) hG dX2_entails_27 (by decide) (by omega) (by omega) (fun q => absurd q (by decide)) (fun _ => ?_)
    refine tv_iload_n hG dX2_entails_30 rfl rfl ?_
    refine tv_if_eq (tgt := 66) hG dX2_entails_31 (by decide) (by omega) (fun _ => ?_) (fun q => absurd q (by decide))
    refine tv_iload_n hG dX2_entails_66 rfl rfl ?_
    exact hret _ _ _ _ dX2_entails_67 (by decide) ⟨Or.inr ⟨rfl, fun q => hc0 q.1⟩, fun _ _ => rfl⟩
set_option maxHeartbeats 4000000 in
theorem tv_cM_below (l : Launch) (D : va_G) (h : Nat → Nat) (d : Nat → ClassId) (σ : tv_M) (t n : Nat → Nat) (lg : Nat) (hM : tv_isM σ t n lg) (hGS : tv_GS t n lg) : tv_CI l yX2_below cX2_below 3 (some .boolean) ({ frames := 2, cells := 0, slots := 0, locals := 49 } : Room) D (tv_tM d) (tv_wM h d) [.ref (h 20)] σ (fun z τ => tv_pBel t n lg z ∧ ∀ q, q ≠ 23 → τ q = σ q) := by
  refine tv_inZ (own := RX2) (by decide) rfl (by simp [Value.category]) (Nat.le_of_ble_eq_true rfl) ?_
  intro G hG hret
  by_cases hc0 : tv_CP t n 0
  · by_cases hc1 : tv_CP t n 1
    · refine tv_aload_n hG dX2_below_0 rfl rfl ?_
      refine tv_iconst (x := nI 0) hG dX2_below_1 rfl ?_
      refine tv_callxI (As := [.int (nI 0)]) (st := []) hG (tv_cM_complete_t l D h d σ t n lg 0 hM hGS (by decide) hc0) q267 q268 q269 q23 q270 (ci := 1) rfl rfl 1 (by decide +kernel) rfl rfl ⟨Nat.le_of_ble_eq_true rfl, Nat.le_of_ble_eq_true rfl⟩ rfl rfl (Nat.le_of_ble_eq_true rfl) dX2_below_2 ?_
      refine tv_if_eq (tgt := 20) hG dX2_below_5 (by decide) (by omega) (fun q => absurd q (by decide)) (fun _ => ?_)
      refine tv_aload_n hG dX2_below_8 rfl rfl ?_
      refine tv_iconst (x := nI 1) hG dX2_below_9 rfl ?_
      refine tv_callxI (As := [.int (nI 1)]) (st := []) hG (tv_cM_complete_t l D h d σ t n lg 1 hM hGS (by decide) hc1) q267 q268 q269 q23 q270 (ci := 1) rfl rfl 1 (by decide +kernel) rfl rfl ⟨Nat.le_of_ble_eq_true rfl, Nat.le_of_ble_eq_true rfl⟩ rfl rfl (Nat.le_of_ble_eq_true rfl) dX2_below_10 ?_
      refine tv_if_eq (tgt := 20) hG dX2_below_13 (by decide) (by omega) (fun q => absurd q (by decide)) (fun _ => ?_)
      refine tv_iconst (x := nI 1) hG dX2_below_16 rfl ?_
      refine tv_goto (tgt := 21) hG dX2_below_17 (by decide) ?_
      refine tv_istore_n (vs1 := [.ref (h 20), .int (nI 1)]) hG dX2_below_21 rfl (by decide) (Nat.le_of_ble_eq_true rfl) rfl ?_
      refine tv_iconst (x := nI 0) hG dX2_below_22 rfl ?_
      refine tv_istore_n (vs1 := [.ref (h 20), .int (nI 1), .int (nI 0)]) hG dX2_below_23 rfl (by decide) (Nat.le_of_ble_eq_true rfl) rfl ?_
      have loop : ∀ (m k : Nat) (ρ : tv_M), k + m = 81 → tv_isM ρ t n lg → (∀ q, q ≠ 23 → ρ q = σ q) → (∀ j, j < k → tv_EV t n lg 0 j ≤ tv_EV t n lg 1 j) → G 24 [.ref (h 20), .int (nI 1), .int (nI k)] [] ρ := by
        intro m
        induction m with
        | zero =>
          intro k ρ hk hMρ hfr hI
          refine tv_iload_n hG dX2_below_24 rfl rfl ?_
          refine tv_bipush (x := nI 80) hG dX2_below_25 rfl ?_
          refine tv_icmp_gt (tgt := 61) hG dX2_below_27 (by decide) (by omega) (by omega) (fun _ => ?_) (fun q => by exfalso; omega)
          refine tv_iload_n hG dX2_below_61 rfl rfl ?_
          exact hret _ _ _ _ dX2_below_62 (by decide) ⟨Or.inl ⟨rfl, hc0, hc1, fun j hj => hI j (by omega)⟩, hfr⟩
        | succ m ih =>
          intro k ρ hk hMρ hfr hI
          refine tv_iload_n hG dX2_below_24 rfl rfl ?_
          refine tv_bipush (x := nI 80) hG dX2_below_25 rfl ?_
          refine tv_icmp_gt (tgt := 61) hG dX2_below_27 (by decide) (by omega) (by omega) (fun q => by exfalso; omega) (fun _ => ?_)
          refine tv_iload_n hG dX2_below_30 rfl rfl ?_
          refine tv_if_eq (tgt := 61) hG dX2_below_31 (by decide) (by omega) (fun q => absurd q (by decide)) (fun _ => ?_)
          refine tv_aload_n hG dX2_below_34 rfl rfl ?_
          refine tv_iconst (x := nI 0) hG dX2_below_35 rfl ?_
          refine tv_iload_n hG dX2_below_36 rfl rfl ?_
          refine tv_callI (As := [.int (nI 0), .int (nI k)]) (st := []) hG (tv_cM_eval l D h d ρ t n lg 0 k hMρ hGS (by decide) (by omega) hc0) q280 q282 qs17 q23 q283 (ci := 1) rfl rfl 2 (by decide +kernel) rfl rfl ⟨Nat.le_of_ble_eq_true rfl, Nat.le_of_ble_eq_true rfl⟩ rfl rfl (Nat.le_of_ble_eq_true rfl) dX2_below_37 (fun z τ1 hp => ?_)
          obtain ⟨rfl, he1⟩ := hp
          have hM1 := tv_isM_to hMρ he1
          have hfr1 : ∀ q, q ≠ 23 → τ1 q = σ q := fun q hq => (he1 q hq).trans (hfr q hq)
          have hE1 := tv_EV_lt hGS (by decide) hc0 k
          refine tv_aload_n hG dX2_below_40 rfl rfl ?_
          refine tv_iconst (x := nI 1) hG dX2_below_41 rfl ?_
          refine tv_iload_n hG dX2_below_42 rfl rfl ?_
          refine tv_callI (As := [.int (nI 1), .int (nI k)]) (st := [.int (nI (tv_EV t n lg 0 k))]) hG (tv_cM_eval l D h d τ1 t n lg 1 k hM1 hGS (by decide) (by omega) hc1) q280 q282 qs17 q23 q283 (ci := 1) rfl rfl 2 (by decide +kernel) rfl rfl ⟨Nat.le_of_ble_eq_true rfl, Nat.le_of_ble_eq_true rfl⟩ rfl rfl (Nat.le_of_ble_eq_true rfl) dX2_below_43 (fun z τ2 hp => ?_)
          obtain ⟨rfl, he2⟩ := hp
          have hM2 := tv_isM_to hM1 he2
          have hfr2 : ∀ q, q ≠ 23 → τ2 q = σ q := fun q hq => (he2 q hq).trans (hfr1 q hq)
          have hE2 := tv_EV_lt hGS (by decide) hc1 k
          refine tv_icmp_gt (tgt := 53) hG dX2_below_46 (by decide) (by omega) (by omega) (fun c1 => ?_) (fun c1 => ?_)
          · refine tv_iconst (x := nI 0) hG dX2_below_53 rfl ?_
            refine tv_istore_n (vs1 := [.ref (h 20), .int (nI 0), .int (nI k)]) hG dX2_below_54 rfl (by decide) (Nat.le_of_ble_eq_true rfl) rfl ?_
            refine tv_iinc (y := nI (k + 1)) (vs1 := [.ref (h 20), .int (nI 0), .int (nI (k + 1))]) hG dX2_below_55 rfl (nI_1 _) (by decide) rfl ?_
            refine tv_goto (tgt := 24) hG dX2_below_58 (by decide) ?_
            refine tv_iload_n hG dX2_below_24 rfl rfl ?_
            refine tv_bipush (x := nI 80) hG dX2_below_25 rfl ?_
            refine tv_icmp_gt (tgt := 61) hG dX2_below_27 (by decide) (by omega) (by omega) (fun c2 => ?_) (fun c2 => ?_)
            · refine tv_iload_n hG dX2_below_61 rfl rfl ?_
              exact hret _ _ _ _ dX2_below_62 (by decide) ⟨Or.inr ⟨rfl, fun q => by have q := q.2.2 k (by omega); omega⟩, hfr2⟩
            · refine tv_iload_n hG dX2_below_30 rfl rfl ?_
              refine tv_if_eq (tgt := 61) hG dX2_below_31 (by decide) (by omega) (fun _ => ?_) (fun q => absurd q (by decide))
              refine tv_iload_n hG dX2_below_61 rfl rfl ?_
              exact hret _ _ _ _ dX2_below_62 (by decide) ⟨Or.inr ⟨rfl, fun q => by have q := q.2.2 k (by omega); omega⟩, hfr2⟩
          · refine tv_iconst (x := nI 1) hG dX2_below_49 rfl ?_
            refine tv_goto (tgt := 54) hG dX2_below_50 (by decide) ?_
            refine tv_istore_n (vs1 := [.ref (h 20), .int (nI 1), .int (nI k)]) hG dX2_below_54 rfl (by decide) (Nat.le_of_ble_eq_true rfl) rfl ?_
            refine tv_iinc (y := nI (k + 1)) (vs1 := [.ref (h 20), .int (nI 1), .int (nI (k + 1))]) hG dX2_below_55 rfl (nI_1 _) (by decide) rfl ?_
            refine tv_goto (tgt := 24) hG dX2_below_58 (by decide) ?_
            refine ih (k + 1) τ2 (by omega) hM2 hfr2 (fun j hj => ?_)
            rcases Nat.lt_or_ge j k with q | q
            · exact hI j q
            · rw [show j = k by omega]; omega
      exact loop 81 0 σ (by omega) hM (fun _ _ => rfl) (fun j hj => by omega)
    · have hnc : ¬ ∃ q, q < 2 ∧ nI 1 = nI q ∧ tv_CP t n q := fun q => by obtain ⟨q, q1, q2, q3⟩ := q; have e1 : 1 = q := tv_inj (by omega) (by omega) q2; subst e1; exact hc1 q3
      refine tv_aload_n hG dX2_below_0 rfl rfl ?_
      refine tv_iconst (x := nI 0) hG dX2_below_1 rfl ?_
      refine tv_callxI (As := [.int (nI 0)]) (st := []) hG (tv_cM_complete_t l D h d σ t n lg 0 hM hGS (by decide) hc0) q267 q268 q269 q23 q270 (ci := 1) rfl rfl 1 (by decide +kernel) rfl rfl ⟨Nat.le_of_ble_eq_true rfl, Nat.le_of_ble_eq_true rfl⟩ rfl rfl (Nat.le_of_ble_eq_true rfl) dX2_below_2 ?_
      refine tv_if_eq (tgt := 20) hG dX2_below_5 (by decide) (by omega) (fun q => absurd q (by decide)) (fun _ => ?_)
      refine tv_aload_n hG dX2_below_8 rfl rfl ?_
      refine tv_iconst (x := nI 1) hG dX2_below_9 rfl ?_
      refine tv_callxI (As := [.int (nI 1)]) (st := []) hG (tv_cM_complete_n l D h d σ t n lg (nI 1) hM hGS hnc) q267 q268 q269 q23 q270 (ci := 1) rfl rfl 1 (by decide +kernel) rfl rfl ⟨Nat.le_of_ble_eq_true rfl, Nat.le_of_ble_eq_true rfl⟩ rfl rfl (Nat.le_of_ble_eq_true rfl) dX2_below_10 ?_
      refine tv_if_eq (tgt := 20) hG dX2_below_13 (by decide) (by omega) (fun _ => ?_) (fun q => absurd q (by decide))
      refine tv_iconst (x := nI 0) hG dX2_below_20 rfl ?_
      refine tv_istore_n (vs1 := [.ref (h 20), .int (nI 0)]) hG dX2_below_21 rfl (by decide) (Nat.le_of_ble_eq_true rfl) rfl ?_
      refine tv_iconst (x := nI 0) hG dX2_below_22 rfl ?_
      refine tv_istore_n (vs1 := [.ref (h 20), .int (nI 0), .int (nI 0)]) hG dX2_below_23 rfl (by decide) (Nat.le_of_ble_eq_true rfl) rfl ?_
      refine tv_iload_n hG dX2_below_24 rfl rfl ?_
      refine tv_bipush (x := nI 80) hG dX2_below_25 rfl ?_
      refine tv_icmp_gt (tgt := 61) hG dX2_below_27 (by decide) (by omega) (by omega) (fun q => absurd q (by decide)) (fun _ => ?_)
      refine tv_iload_n hG dX2_below_30 rfl rfl ?_
      refine tv_if_eq (tgt := 61) hG dX2_below_31 (by decide) (by omega) (fun _ => ?_) (fun q => absurd q (by decide))
      refine tv_iload_n hG dX2_below_61 rfl rfl ?_
      exact hret _ _ _ _ dX2_below_62 (by decide) ⟨Or.inr ⟨rfl, fun q => hc1 q.2.1⟩, fun _ _ => rfl⟩
  · have hnc : ¬ ∃ q, q < 2 ∧ nI 0 = nI q ∧ tv_CP t n q := fun q => by obtain ⟨q, q1, q2, q3⟩ := q; have e1 : 0 = q := tv_inj (by omega) (by omega) q2; subst e1; exact hc0 q3
    refine tv_aload_n hG dX2_below_0 rfl rfl ?_
    refine tv_iconst (x := nI 0) hG dX2_below_1 rfl ?_
    refine tv_callxI (As := [.int (nI 0)]) (st := []) hG (tv_cM_complete_n l D h d σ t n lg (nI 0) hM hGS hnc) q267 q268 q269 q23 q270 (ci := 1) rfl rfl 1 (by decide +kernel) rfl rfl ⟨Nat.le_of_ble_eq_true rfl, Nat.le_of_ble_eq_true rfl⟩ rfl rfl (Nat.le_of_ble_eq_true rfl) dX2_below_2 ?_
    refine tv_if_eq (tgt := 20) hG dX2_below_5 (by decide) (by omega) (fun _ => ?_) (fun q => absurd q (by decide))
    refine tv_iconst (x := nI 0) hG dX2_below_20 rfl ?_
    refine tv_istore_n (vs1 := [.ref (h 20), .int (nI 0)]) hG dX2_below_21 rfl (by decide) (Nat.le_of_ble_eq_true rfl) rfl ?_
    refine tv_iconst (x := nI 0) hG dX2_below_22 rfl ?_
    refine tv_istore_n (vs1 := [.ref (h 20), .int (nI 0), .int (nI 0)]) hG dX2_below_23 rfl (by decide) (Nat.le_of_ble_eq_true rfl) rfl ?_
    refine tv_iload_n hG dX2_below_24 rfl rfl ?_
    refine tv_bipush (x := nI 80) hG dX2_below_25 rfl ?_
    refine tv_icmp_gt (tgt := 61) hG dX2_below_27 (by decide) (by omega) (by omega) (fun q => absurd q (by decide)) (fun _ => ?_)
    refine tv_iload_n hG dX2_below_30 rfl rfl ?_
    refine tv_if_eq (tgt := 61) hG dX2_below_31 (by decide) (by omega) (fun _ => ?_) (fun q => absurd q (by decide))
    refine tv_iload_n hG dX2_below_61 rfl rfl ?_
    exact hret _ _ _ _ dX2_below_62 (by decide) ⟨Or.inr ⟨rfl, fun q => hc0 q.1⟩, fun _ _ => rfl⟩
set_option maxHeartbeats 4000000 in
theorem tv_cM_alike (l : Launch) (D : va_G) (h : Nat → Nat) (d : Nat → ClassId) (σ : tv_M) (t n : Nat → Nat) (lg : Nat) (hM : tv_isM σ t n lg) (hGS : tv_GS t n lg) : tv_CI l yX2_alike cX2_alike 3 (some .boolean) ({ frames := 2, cells := 0, slots := 0, locals := 49 } : Room) D (tv_tM d) (tv_wM h d) [.ref (h 20)] σ (fun z τ => tv_pAli t n lg z ∧ ∀ q, q ≠ 23 → τ q = σ q) := by
  refine tv_inZ (own := RX2) (by decide) rfl (by simp [Value.category]) (Nat.le_of_ble_eq_true rfl) ?_
  intro G hG hret
  by_cases hc0 : tv_CP t n 0
  · by_cases hc1 : tv_CP t n 1
    · refine tv_aload_n hG dX2_alike_0 rfl rfl ?_
      refine tv_iconst (x := nI 0) hG dX2_alike_1 rfl ?_
      refine tv_callxI (As := [.int (nI 0)]) (st := []) hG (tv_cM_complete_t l D h d σ t n lg 0 hM hGS (by decide) hc0) q267 q268 q269 q23 q270 (ci := 1) rfl rfl 1 (by decide +kernel) rfl rfl ⟨Nat.le_of_ble_eq_true rfl, Nat.le_of_ble_eq_true rfl⟩ rfl rfl (Nat.le_of_ble_eq_true rfl) dX2_alike_2 ?_
      refine tv_if_eq (tgt := 20) hG dX2_alike_5 (by decide) (by omega) (fun q => absurd q (by decide)) (fun _ => ?_)
      refine tv_aload_n hG dX2_alike_8 rfl rfl ?_
      refine tv_iconst (x := nI 1) hG dX2_alike_9 rfl ?_
      refine tv_callxI (As := [.int (nI 1)]) (st := []) hG (tv_cM_complete_t l D h d σ t n lg 1 hM hGS (by decide) hc1) q267 q268 q269 q23 q270 (ci := 1) rfl rfl 1 (by decide +kernel) rfl rfl ⟨Nat.le_of_ble_eq_true rfl, Nat.le_of_ble_eq_true rfl⟩ rfl rfl (Nat.le_of_ble_eq_true rfl) dX2_alike_10 ?_
      refine tv_if_eq (tgt := 20) hG dX2_alike_13 (by decide) (by omega) (fun q => absurd q (by decide)) (fun _ => ?_)
      refine tv_iconst (x := nI 1) hG dX2_alike_16 rfl ?_
      refine tv_goto (tgt := 21) hG dX2_alike_17 (by decide) ?_
      refine tv_istore_n (vs1 := [.ref (h 20), .int (nI 1)]) hG dX2_alike_21 rfl (by decide) (Nat.le_of_ble_eq_true rfl) rfl ?_
      refine tv_iconst (x := nI 0) hG dX2_alike_22 rfl ?_
      refine tv_istore_n (vs1 := [.ref (h 20), .int (nI 1), .int (nI 0)]) hG dX2_alike_23 rfl (by decide) (Nat.le_of_ble_eq_true rfl) rfl ?_
      have loop : ∀ (m k : Nat) (ρ : tv_M), k + m = 81 → tv_isM ρ t n lg → (∀ q, q ≠ 23 → ρ q = σ q) → (∀ j, j < k → tv_EV t n lg 0 j = tv_EV t n lg 1 j) → G 24 [.ref (h 20), .int (nI 1), .int (nI k)] [] ρ := by
        intro m
        induction m with
        | zero =>
          intro k ρ hk hMρ hfr hI
          refine tv_iload_n hG dX2_alike_24 rfl rfl ?_
          refine tv_bipush (x := nI 80) hG dX2_alike_25 rfl ?_
          refine tv_icmp_gt (tgt := 61) hG dX2_alike_27 (by decide) (by omega) (by omega) (fun _ => ?_) (fun q => by exfalso; omega)
          refine tv_iload_n hG dX2_alike_61 rfl rfl ?_
          exact hret _ _ _ _ dX2_alike_62 (by decide) ⟨Or.inl ⟨rfl, hc0, hc1, fun j hj => hI j (by omega)⟩, hfr⟩
        | succ m ih =>
          intro k ρ hk hMρ hfr hI
          refine tv_iload_n hG dX2_alike_24 rfl rfl ?_
          refine tv_bipush (x := nI 80) hG dX2_alike_25 rfl ?_
          refine tv_icmp_gt (tgt := 61) hG dX2_alike_27 (by decide) (by omega) (by omega) (fun q => by exfalso; omega) (fun _ => ?_)
          refine tv_iload_n hG dX2_alike_30 rfl rfl ?_
          refine tv_if_eq (tgt := 61) hG dX2_alike_31 (by decide) (by omega) (fun q => absurd q (by decide)) (fun _ => ?_)
          refine tv_aload_n hG dX2_alike_34 rfl rfl ?_
          refine tv_iconst (x := nI 0) hG dX2_alike_35 rfl ?_
          refine tv_iload_n hG dX2_alike_36 rfl rfl ?_
          refine tv_callI (As := [.int (nI 0), .int (nI k)]) (st := []) hG (tv_cM_eval l D h d ρ t n lg 0 k hMρ hGS (by decide) (by omega) hc0) q280 q282 qs17 q23 q283 (ci := 1) rfl rfl 2 (by decide +kernel) rfl rfl ⟨Nat.le_of_ble_eq_true rfl, Nat.le_of_ble_eq_true rfl⟩ rfl rfl (Nat.le_of_ble_eq_true rfl) dX2_alike_37 (fun z τ1 hp => ?_)
          obtain ⟨rfl, he1⟩ := hp
          have hM1 := tv_isM_to hMρ he1
          have hfr1 : ∀ q, q ≠ 23 → τ1 q = σ q := fun q hq => (he1 q hq).trans (hfr q hq)
          have hE1 := tv_EV_lt hGS (by decide) hc0 k
          refine tv_aload_n hG dX2_alike_40 rfl rfl ?_
          refine tv_iconst (x := nI 1) hG dX2_alike_41 rfl ?_
          refine tv_iload_n hG dX2_alike_42 rfl rfl ?_
          refine tv_callI (As := [.int (nI 1), .int (nI k)]) (st := [.int (nI (tv_EV t n lg 0 k))]) hG (tv_cM_eval l D h d τ1 t n lg 1 k hM1 hGS (by decide) (by omega) hc1) q280 q282 qs17 q23 q283 (ci := 1) rfl rfl 2 (by decide +kernel) rfl rfl ⟨Nat.le_of_ble_eq_true rfl, Nat.le_of_ble_eq_true rfl⟩ rfl rfl (Nat.le_of_ble_eq_true rfl) dX2_alike_43 (fun z τ2 hp => ?_)
          obtain ⟨rfl, he2⟩ := hp
          have hM2 := tv_isM_to hM1 he2
          have hfr2 : ∀ q, q ≠ 23 → τ2 q = σ q := fun q hq => (he2 q hq).trans (hfr1 q hq)
          have hE2 := tv_EV_lt hGS (by decide) hc1 k
          refine tv_icmp_ne (tgt := 53) hG dX2_alike_46 (by decide) (by omega) (by omega) (fun c1 => ?_) (fun c1 => ?_)
          · refine tv_iconst (x := nI 0) hG dX2_alike_53 rfl ?_
            refine tv_istore_n (vs1 := [.ref (h 20), .int (nI 0), .int (nI k)]) hG dX2_alike_54 rfl (by decide) (Nat.le_of_ble_eq_true rfl) rfl ?_
            refine tv_iinc (y := nI (k + 1)) (vs1 := [.ref (h 20), .int (nI 0), .int (nI (k + 1))]) hG dX2_alike_55 rfl (nI_1 _) (by decide) rfl ?_
            refine tv_goto (tgt := 24) hG dX2_alike_58 (by decide) ?_
            refine tv_iload_n hG dX2_alike_24 rfl rfl ?_
            refine tv_bipush (x := nI 80) hG dX2_alike_25 rfl ?_
            refine tv_icmp_gt (tgt := 61) hG dX2_alike_27 (by decide) (by omega) (by omega) (fun c2 => ?_) (fun c2 => ?_)
            · refine tv_iload_n hG dX2_alike_61 rfl rfl ?_
              exact hret _ _ _ _ dX2_alike_62 (by decide) ⟨Or.inr ⟨rfl, fun q => by have q := q.2.2 k (by omega); omega⟩, hfr2⟩
            · refine tv_iload_n hG dX2_alike_30 rfl rfl ?_
              refine tv_if_eq (tgt := 61) hG dX2_alike_31 (by decide) (by omega) (fun _ => ?_) (fun q => absurd q (by decide))
              refine tv_iload_n hG dX2_alike_61 rfl rfl ?_
              exact hret _ _ _ _ dX2_alike_62 (by decide) ⟨Or.inr ⟨rfl, fun q => by have q := q.2.2 k (by omega); omega⟩, hfr2⟩
          · refine tv_iconst (x := nI 1) hG dX2_alike_49 rfl ?_
            refine tv_goto (tgt := 54) hG dX2_alike_50 (by decide) ?_
            refine tv_istore_n (vs1 := [.ref (h 20), .int (nI 1), .int (nI k)]) hG dX2_alike_54 rfl (by decide) (Nat.le_of_ble_eq_true rfl) rfl ?_
            refine tv_iinc (y := nI (k + 1)) (vs1 := [.ref (h 20), .int (nI 1), .int (nI (k + 1))]) hG dX2_alike_55 rfl (nI_1 _) (by decide) rfl ?_
            refine tv_goto (tgt := 24) hG dX2_alike_58 (by decide) ?_
            refine ih (k + 1) τ2 (by omega) hM2 hfr2 (fun j hj => ?_)
            rcases Nat.lt_or_ge j k with q | q
            · exact hI j q
            · rw [show j = k by omega]; omega
      exact loop 81 0 σ (by omega) hM (fun _ _ => rfl) (fun j hj => by omega)
    · have hnc : ¬ ∃ q, q < 2 ∧ nI 1 = nI q ∧ tv_CP t n q := fun q => by obtain ⟨q, q1, q2, q3⟩ := q; have e1 : 1 = q := tv_inj (by omega) (by omega) q2; subst e1; exact hc1 q3
      refine tv_aload_n hG dX2_alike_0 rfl rfl ?_
      refine tv_iconst (x := nI 0) hG dX2_alike_1 rfl ?_
      refine tv_callxI (As := [.int (nI 0)]) (st := []) hG (tv_cM_complete_t l D h d σ t n lg 0 hM hGS (by decide) hc0) q267 q268 q269 q23 q270 (ci := 1) rfl rfl 1 (by decide +kernel) rfl rfl ⟨Nat.le_of_ble_eq_true rfl, Nat.le_of_ble_eq_true rfl⟩ rfl rfl (Nat.le_of_ble_eq_true rfl) dX2_alike_2 ?_
      refine tv_if_eq (tgt := 20) hG dX2_alike_5 (by decide) (by omega) (fun q => absurd q (by decide)) (fun _ => ?_)
      refine tv_aload_n hG dX2_alike_8 rfl rfl ?_
      refine tv_iconst (x := nI 1) hG dX2_alike_9 rfl ?_
      refine tv_callxI (As := [.int (nI 1)]) (st := []) hG (tv_cM_complete_n l D h d σ t n lg (nI 1) hM hGS hnc) q267 q268 q269 q23 q270 (ci := 1) rfl rfl 1 (by decide +kernel) rfl rfl ⟨Nat.le_of_ble_eq_true rfl, Nat.le_of_ble_eq_true rfl⟩ rfl rfl (Nat.le_of_ble_eq_true rfl) dX2_alike_10 ?_
      refine tv_if_eq (tgt := 20) hG dX2_alike_13 (by decide) (by omega) (fun _ => ?_) (fun q => absurd q (by decide))
      refine tv_iconst (x := nI 0) hG dX2_alike_20 rfl ?_
      refine tv_istore_n (vs1 := [.ref (h 20), .int (nI 0)]) hG dX2_alike_21 rfl (by decide) (Nat.le_of_ble_eq_true rfl) rfl ?_
      refine tv_iconst (x := nI 0) hG dX2_alike_22 rfl ?_
      refine tv_istore_n (vs1 := [.ref (h 20), .int (nI 0), .int (nI 0)]) hG dX2_alike_23 rfl (by decide) (Nat.le_of_ble_eq_true rfl) rfl ?_
      refine tv_iload_n hG dX2_alike_24 rfl rfl ?_
      refine tv_bipush (x := nI 80) hG dX2_alike_25 rfl ?_
      refine tv_icmp_gt (tgt := 61) hG dX2_alike_27 (by decide) (by omega) (by omega) (fun q => absurd q (by decide)) (fun _ => ?_)
      refine tv_iload_n hG dX2_alike_30 rfl rfl ?_
      refine tv_if_eq (tgt := 61) hG dX2_alike_31 (by decide) (by omega) (fun _ => ?_) (fun q => absurd q (by decide))
      refine tv_iload_n hG dX2_alike_61 rfl rfl ?_
      exact hret _ _ _ _ dX2_alike_62 (by decide) ⟨Or.inr ⟨rfl, fun q => hc1 q.2.1⟩, fun _ _ => rfl⟩
  · have hnc : ¬ ∃ q, q < 2 ∧ nI 0 = nI q ∧ tv_CP t n q := fun q => by obtain ⟨q, q1, q2, q3⟩ := q; have e1 : 0 = q := tv_inj (by omega) (by omega) q2; subst e1; exact hc0 q3
    refine tv_aload_n hG dX2_alike_0 rfl rfl ?_
    refine tv_iconst (x := nI 0) hG dX2_alike_1 rfl ?_
    refine tv_callxI (As := [.int (nI 0)]) (st := []) hG (tv_cM_complete_n l D h d σ t n lg (nI 0) hM hGS hnc) q267 q268 q269 q23 q270 (ci := 1) rfl rfl 1 (by decide +kernel) rfl rfl ⟨Nat.le_of_ble_eq_true rfl, Nat.le_of_ble_eq_true rfl⟩ rfl rfl (Nat.le_of_ble_eq_true rfl) dX2_alike_2 ?_
    refine tv_if_eq (tgt := 20) hG dX2_alike_5 (by decide) (by omega) (fun _ => ?_) (fun q => absurd q (by decide))
    refine tv_iconst (x := nI 0) hG dX2_alike_20 rfl ?_
    refine tv_istore_n (vs1 := [.ref (h 20), .int (nI 0)]) hG dX2_alike_21 rfl (by decide) (Nat.le_of_ble_eq_true rfl) rfl ?_
    refine tv_iconst (x := nI 0) hG dX2_alike_22 rfl ?_
    refine tv_istore_n (vs1 := [.ref (h 20), .int (nI 0), .int (nI 0)]) hG dX2_alike_23 rfl (by decide) (Nat.le_of_ble_eq_true rfl) rfl ?_
    refine tv_iload_n hG dX2_alike_24 rfl rfl ?_
    refine tv_bipush (x := nI 80) hG dX2_alike_25 rfl ?_
    refine tv_icmp_gt (tgt := 61) hG dX2_alike_27 (by decide) (by omega) (by omega) (fun q => absurd q (by decide)) (fun _ => ?_)
    refine tv_iload_n hG dX2_alike_30 rfl rfl ?_
    refine tv_if_eq (tgt := 61) hG dX2_alike_31 (by decide) (by omega) (fun _ => ?_) (fun q => absurd q (by decide))
    refine tv_iload_n hG dX2_alike_61 rfl rfl ?_
    exact hret _ _ _ _ dX2_alike_62 (by decide) ⟨Or.inr ⟨rfl, fun q => hc0 q.1⟩, fun _ _ => rfl⟩
set_option maxHeartbeats 4000000 in
theorem tv_cM_findApart (l : Launch) (D : va_G) (h : Nat → Nat) (d : Nat → ClassId) (σ : tv_M) (t n : Nat → Nat) (lg : Nat) (g x : Int32) (hM : tv_isM σ t n lg) (hGS : tv_GS t n lg) : tv_CI l yX2_findApart cX2_findApart 4 (some .int) ({ frames := 2, cells := 0, slots := 0, locals := 49 } : Room) D (tv_tM d) (tv_wM h d) [.ref (h 20), .int g, .int x] σ (fun z τ => tv_pApart t n lg g x z ∧ ∀ q, q ≠ 23 → τ q = σ q) := by
  refine tv_inI (own := RX2) (by decide) rfl (by simp [Value.category]) (Nat.le_of_ble_eq_true rfl) ?_
  intro G hG hret
  rcases tv_fcase g with ⟨f, hf, rfl⟩ | hbadf
  · by_cases hcp : tv_CP t n f
    · rcases tv_rcase x 3 3 (by decide) with ⟨lt, hlt, rfl⟩ | hx0 | hx7
      · refine tv_iconst (x := nI 0) hG dX2_findApart_0 rfl ?_
        refine tv_istore_n (vs1 := [.ref (h 20), .int (nI f), .int (nI lt), .int (nI 0)]) hG dX2_findApart_1 rfl (by decide) (Nat.le_of_ble_eq_true rfl) rfl ?_
        have hiff : ∀ k, (∃ f1 l1, f1 < 2 ∧ nI f = nI f1 ∧ l1 < 4 ∧ nI lt = nI l1 ∧ tv_CP t n f1 ∧ tv_EV t n lg f1 k ≠ tv_dg k l1) ↔ tv_EV t n lg f k ≠ tv_dg k lt := fun k => ⟨fun q => by obtain ⟨f1, l1, q1, q2, q3, q4, q5, q6⟩ := q; have e : f = f1 := tv_inj (by omega) (by omega) q2; have e2 : lt = l1 := tv_inj (by omega) (by omega) q4; subst e; subst e2; exact q6, fun q => ⟨f, lt, hf, rfl, by omega, rfl, hcp, q⟩⟩
        have loop : ∀ (m k : Nat) (ρ : tv_M), k + m = 81 → tv_isM ρ t n lg → (∀ q, q ≠ 23 → ρ q = σ q) → (∀ j, j < k → ¬ tv_EV t n lg f j ≠ tv_dg j lt) → G 2 [.ref (h 20), .int (nI f), .int (nI lt), .int (nI k)] [] ρ := by
          intro m
          induction m with
          | zero =>
            intro k ρ hk hMρ hfr hI
            refine tv_iload_n hG dX2_findApart_2 rfl rfl ?_
            refine tv_bipush (x := nI 80) hG dX2_findApart_3 rfl ?_
            refine tv_icmp_gt (tgt := 48) hG dX2_findApart_5 (by decide) (by omega) (by omega) (fun _ => ?_) (fun q => by exfalso; omega)
            refine tv_iconst (x := -1) hG dX2_findApart_48 rfl ?_
            exact hret _ _ _ _ dX2_findApart_49 ⟨Or.inl ⟨rfl, fun j hj q => hI j (by omega) ((hiff j).mp q)⟩, hfr⟩
          | succ m ih =>
            intro k ρ hk hMρ hfr hI
            refine tv_iload_n hG dX2_findApart_2 rfl rfl ?_
            refine tv_bipush (x := nI 80) hG dX2_findApart_3 rfl ?_
            refine tv_icmp_gt (tgt := 48) hG dX2_findApart_5 (by decide) (by omega) (by omega) (fun q => by exfalso; omega) (fun _ => ?_)
            refine tv_aload_n hG dX2_findApart_8 rfl rfl ?_
            refine tv_iload_n hG dX2_findApart_9 rfl rfl ?_
            refine tv_callxI (As := [.int (nI f)]) (st := []) hG (tv_cM_complete_t l D h d ρ t n lg f hMρ hGS hf hcp) q267 q268 q269 q23 q270 (ci := 1) rfl rfl 1 (by decide +kernel) rfl rfl ⟨Nat.le_of_ble_eq_true rfl, Nat.le_of_ble_eq_true rfl⟩ rfl rfl (Nat.le_of_ble_eq_true rfl) dX2_findApart_10 ?_
            refine tv_if_eq (tgt := 48) hG dX2_findApart_13 (by decide) (by omega) (fun q => absurd q (by decide)) (fun _ => ?_)
            refine tv_iload_n hG dX2_findApart_16 rfl rfl ?_
            refine tv_if_lt (tgt := 48) hG dX2_findApart_17 (by decide) (by omega) ?_
            refine tv_iload_n hG dX2_findApart_20 rfl rfl ?_
            refine tv_iconst (x := nI 3) hG dX2_findApart_21 rfl ?_
            refine tv_icmp_gt (tgt := 48) hG dX2_findApart_22 (by decide) (by omega) (by omega) (fun q => by exfalso; omega) (fun _ => ?_)
            refine tv_aload_n hG dX2_findApart_25 rfl rfl ?_
            refine tv_iload_n hG dX2_findApart_26 rfl rfl ?_
            refine tv_iload_n hG dX2_findApart_27 rfl rfl ?_
            refine tv_callI (As := [.int (nI f), .int (nI k)]) (st := []) hG (tv_cM_eval l D h d ρ t n lg f k hMρ hGS hf (by omega) hcp) q280 q282 qs17 q23 q283 (ci := 1) rfl rfl 2 (by decide +kernel) rfl rfl ⟨Nat.le_of_ble_eq_true rfl, Nat.le_of_ble_eq_true rfl⟩ rfl rfl (Nat.le_of_ble_eq_true rfl) dX2_findApart_28 (fun z τ1 hp => ?_)
            obtain ⟨rfl, he1⟩ := hp
            have hM1 := tv_isM_to hMρ he1
            have hfr1 : ∀ q, q ≠ 23 → τ1 q = σ q := fun q hq => (he1 q hq).trans (hfr q hq)
            have hE1 := tv_EV_lt hGS hf hcp k
            refine tv_aload_n hG dX2_findApart_31 rfl rfl ?_
            refine tv_iload_n hG dX2_findApart_32 rfl rfl ?_
            refine tv_iload_n hG dX2_findApart_33 rfl rfl ?_
            refine tv_callxI (As := [.int (nI lt), .int (nI k)]) (st := [.int (nI (tv_EV t n lg f k))]) hG (tv_cM_letter l D h d τ1 lt k (by omega) (by omega)) q284 q286 qs18 q23 q287 (ci := 1) rfl rfl 2 (by decide +kernel) rfl rfl ⟨Nat.le_of_ble_eq_true rfl, Nat.le_of_ble_eq_true rfl⟩ rfl rfl (Nat.le_of_ble_eq_true rfl) dX2_findApart_34 ?_
            have hd3 := tv_dg_lt k lt
            refine tv_icmp_eq (tgt := 42) hG dX2_findApart_37 (by decide) (by omega) (by omega) (fun c1 => ?_) (fun c1 => ?_)
            · refine tv_iinc (y := nI (k + 1)) (vs1 := [.ref (h 20), .int (nI f), .int (nI lt), .int (nI (k + 1))]) hG dX2_findApart_42 rfl (nI_1 _) (by decide) rfl ?_
              refine tv_goto (tgt := 2) hG dX2_findApart_45 (by decide) ?_
              refine ih (k + 1) τ1 (by omega) hM1 hfr1 (fun j hj => ?_)
              rcases Nat.lt_or_ge j k with q | q
              · exact hI j q
              · rw [show j = k by omega]; exact fun q => q c1
            · refine tv_iload_n hG dX2_findApart_40 rfl rfl ?_
              exact hret _ _ _ _ dX2_findApart_41 ⟨Or.inr ⟨k, by omega, rfl, (hiff k).mpr c1, fun j hj q => hI j hj ((hiff j).mp q)⟩, hfr1⟩
        exact loop 81 0 σ (by omega) hM (fun _ _ => rfl) (fun j hj => by omega)
      · refine tv_iconst (x := nI 0) hG dX2_findApart_0 rfl ?_
        refine tv_istore_n (vs1 := [.ref (h 20), .int (nI f), .int x, .int (nI 0)]) hG dX2_findApart_1 rfl (by decide) (Nat.le_of_ble_eq_true rfl) rfl ?_
        refine tv_iload_n hG dX2_findApart_2 rfl rfl ?_
        refine tv_bipush (x := nI 80) hG dX2_findApart_3 rfl ?_
        refine tv_icmp_gt (tgt := 48) hG dX2_findApart_5 (by decide) (by omega) (by omega) (fun q => absurd q (by decide)) (fun _ => ?_)
        refine tv_aload_n hG dX2_findApart_8 rfl rfl ?_
        refine tv_iload_n hG dX2_findApart_9 rfl rfl ?_
        refine tv_callxI (As := [.int (nI f)]) (st := []) hG (tv_cM_complete_t l D h d σ t n lg f hM hGS hf hcp) q267 q268 q269 q23 q270 (ci := 1) rfl rfl 1 (by decide +kernel) rfl rfl ⟨Nat.le_of_ble_eq_true rfl, Nat.le_of_ble_eq_true rfl⟩ rfl rfl (Nat.le_of_ble_eq_true rfl) dX2_findApart_10 ?_
        refine tv_if_eq (tgt := 48) hG dX2_findApart_13 (by decide) (by omega) (fun q => absurd q (by decide)) (fun _ => ?_)
        refine tv_iload_n hG dX2_findApart_16 rfl rfl ?_
        refine tv_zif_lt (tgt := 48) hG dX2_findApart_17 (by decide) (fun _ => ?_) (fun q => absurd hx0 q)
        refine tv_iconst (x := -1) hG dX2_findApart_48 rfl ?_
        exact hret _ _ _ _ dX2_findApart_49 ⟨tv_Lst_no (fun k q => by obtain ⟨f1, l1, q1, q2, q3, q4, q5, q6⟩ := q; exact tv_bad_r (M := 3) (m := 3) (by decide) (by decide) (Or.inl hx0) (by omega) q4), fun _ _ => rfl⟩
      · refine tv_iconst (x := nI 0) hG dX2_findApart_0 rfl ?_
        refine tv_istore_n (vs1 := [.ref (h 20), .int (nI f), .int x, .int (nI 0)]) hG dX2_findApart_1 rfl (by decide) (Nat.le_of_ble_eq_true rfl) rfl ?_
        refine tv_iload_n hG dX2_findApart_2 rfl rfl ?_
        refine tv_bipush (x := nI 80) hG dX2_findApart_3 rfl ?_
        refine tv_icmp_gt (tgt := 48) hG dX2_findApart_5 (by decide) (by omega) (by omega) (fun q => absurd q (by decide)) (fun _ => ?_)
        refine tv_aload_n hG dX2_findApart_8 rfl rfl ?_
        refine tv_iload_n hG dX2_findApart_9 rfl rfl ?_
        refine tv_callxI (As := [.int (nI f)]) (st := []) hG (tv_cM_complete_t l D h d σ t n lg f hM hGS hf hcp) q267 q268 q269 q23 q270 (ci := 1) rfl rfl 1 (by decide +kernel) rfl rfl ⟨Nat.le_of_ble_eq_true rfl, Nat.le_of_ble_eq_true rfl⟩ rfl rfl (Nat.le_of_ble_eq_true rfl) dX2_findApart_10 ?_
        refine tv_if_eq (tgt := 48) hG dX2_findApart_13 (by decide) (by omega) (fun q => absurd q (by decide)) (fun _ => ?_)
        refine tv_iload_n hG dX2_findApart_16 rfl rfl ?_
        refine tv_zif_lt (tgt := 48) hG dX2_findApart_17 (by decide) (fun q => absurd (Int32.lt_trans hx7 q) (by decide)) (fun _ => ?_)
        refine tv_iload_n hG dX2_findApart_20 rfl rfl ?_
        refine tv_iconst (x := nI 3) hG dX2_findApart_21 rfl ?_
        refine tv_zicmp_gt (tgt := 48) hG dX2_findApart_22 (by decide) (fun _ => ?_) (fun q => absurd (by rw [tv_n3]; exact hx7) q)
        refine tv_iconst (x := -1) hG dX2_findApart_48 rfl ?_
        exact hret _ _ _ _ dX2_findApart_49 ⟨tv_Lst_no (fun k q => by obtain ⟨f1, l1, q1, q2, q3, q4, q5, q6⟩ := q; exact tv_bad_r (M := 3) (m := 3) (by decide) (by decide) (Or.inr hx7) (by omega) q4), fun _ _ => rfl⟩
    · have hnc : ¬ ∃ q, q < 2 ∧ nI f = nI q ∧ tv_CP t n q := fun q => by obtain ⟨q, q1, q2, q3⟩ := q; have e1 : f = q := tv_inj (by omega) (by omega) q2; subst e1; exact hcp q3
      refine tv_iconst (x := nI 0) hG dX2_findApart_0 rfl ?_
      refine tv_istore_n (vs1 := [.ref (h 20), .int (nI f), .int x, .int (nI 0)]) hG dX2_findApart_1 rfl (by decide) (Nat.le_of_ble_eq_true rfl) rfl ?_
      refine tv_iload_n hG dX2_findApart_2 rfl rfl ?_
      refine tv_bipush (x := nI 80) hG dX2_findApart_3 rfl ?_
      refine tv_icmp_gt (tgt := 48) hG dX2_findApart_5 (by decide) (by omega) (by omega) (fun q => absurd q (by decide)) (fun _ => ?_)
      refine tv_aload_n hG dX2_findApart_8 rfl rfl ?_
      refine tv_iload_n hG dX2_findApart_9 rfl rfl ?_
      refine tv_callxI (As := [.int (nI f)]) (st := []) hG (tv_cM_complete_n l D h d σ t n lg (nI f) hM hGS hnc) q267 q268 q269 q23 q270 (ci := 1) rfl rfl 1 (by decide +kernel) rfl rfl ⟨Nat.le_of_ble_eq_true rfl, Nat.le_of_ble_eq_true rfl⟩ rfl rfl (Nat.le_of_ble_eq_true rfl) dX2_findApart_10 ?_
      refine tv_if_eq (tgt := 48) hG dX2_findApart_13 (by decide) (by omega) (fun _ => ?_) (fun q => absurd q (by decide))
      refine tv_iconst (x := -1) hG dX2_findApart_48 rfl ?_
      exact hret _ _ _ _ dX2_findApart_49 ⟨tv_Lst_no (fun k q => by obtain ⟨f1, l1, q1, q2, q3, q4, q5, q6⟩ := q; exact hnc ⟨f1, q1, q2, q5⟩), fun _ _ => rfl⟩
  · have hnc : ¬ ∃ q, q < 2 ∧ g = nI q ∧ tv_CP t n q := fun q => by obtain ⟨q, q1, q2, q3⟩ := q; exact tv_bad_f hbadf q1 q2
    refine tv_iconst (x := nI 0) hG dX2_findApart_0 rfl ?_
    refine tv_istore_n (vs1 := [.ref (h 20), .int g, .int x, .int (nI 0)]) hG dX2_findApart_1 rfl (by decide) (Nat.le_of_ble_eq_true rfl) rfl ?_
    refine tv_iload_n hG dX2_findApart_2 rfl rfl ?_
    refine tv_bipush (x := nI 80) hG dX2_findApart_3 rfl ?_
    refine tv_icmp_gt (tgt := 48) hG dX2_findApart_5 (by decide) (by omega) (by omega) (fun q => absurd q (by decide)) (fun _ => ?_)
    refine tv_aload_n hG dX2_findApart_8 rfl rfl ?_
    refine tv_iload_n hG dX2_findApart_9 rfl rfl ?_
    refine tv_callxI (As := [.int g]) (st := []) hG (tv_cM_complete_n l D h d σ t n lg g hM hGS hnc) q267 q268 q269 q23 q270 (ci := 1) rfl rfl 1 (by decide +kernel) rfl rfl ⟨Nat.le_of_ble_eq_true rfl, Nat.le_of_ble_eq_true rfl⟩ rfl rfl (Nat.le_of_ble_eq_true rfl) dX2_findApart_10 ?_
    refine tv_if_eq (tgt := 48) hG dX2_findApart_13 (by decide) (by omega) (fun _ => ?_) (fun q => absurd q (by decide))
    refine tv_iconst (x := -1) hG dX2_findApart_48 rfl ?_
    exact hret _ _ _ _ dX2_findApart_49 ⟨tv_Lst_no (fun k q => by obtain ⟨f1, l1, q1, q2, q3, q4, q5, q6⟩ := q; exact hnc ⟨f1, q1, q2, q5⟩), fun _ _ => rfl⟩
end
section
set_option maxRecDepth 100000
/-! THE CONSTRUCTORS -/
theorem tv_haB (N : Nat) (z : Int32) (hz : z = 0) (cA : ClassId) : vp_cell cA (N, .inl (fun _ => z)) = arrV cA N (fun _ => defaultValue .byte) := by subst hz; rfl
theorem tv_haI (N : Nat) (z : Int32) (hz : z = 0) (cA : ClassId) : vp_cell cA (N, .inl (fun _ => z)) = arrV cA N (fun _ => defaultValue .int) := by subst hz; rfl
/-- the logic that a number stands for -/
def tv_cl3 (x : Int32) (v : Nat) : Prop := (x < 0 ∧ v = 0) ∨ (2 < x ∧ v = 2) ∨ (x = nI v ∧ v ≤ 2)
theorem tv_cl3_le {x : Int32} {v : Nat} (h : tv_cl3 x v) : v ≤ 2 := by
  rcases h with ⟨-, h⟩ | ⟨-, h⟩ | ⟨-, h⟩ <;> omega
theorem tv_cl3_uni {x : Int32} {v w : Nat} (h1 : tv_cl3 x v) (h2 : tv_cl3 x w) : v = w := by
  have b1 : ∀ k, k ≤ 2 → (x < 0 ∨ 2 < x) → ¬ x = nI k := fun k hk hb => tv_bad_r (M := 2) (m := 2) (by decide) (by decide) hb hk
  have b2 : ¬ (x < 0 ∧ 2 < x) := fun q => absurd (Int32.lt_trans q.2 q.1) (by decide)
  rcases h1 with ⟨a1, a2⟩ | ⟨a1, a2⟩ | ⟨a1, a2⟩ <;> rcases h2 with ⟨c1, c2⟩ | ⟨c1, c2⟩ | ⟨c1, c2⟩
  · omega
  · exact absurd ⟨a1, c1⟩ b2
  · exact absurd c1 (b1 w c2 (Or.inl a1))
  · exact absurd ⟨c1, a1⟩ b2
  · omega
  · exact absurd c1 (b1 w c2 (Or.inr a1))
  · exact absurd a1 (b1 v a2 (Or.inl c1))
  · exact absurd a1 (b1 v a2 (Or.inr c1))
  · exact tv_inj (by omega) (by omega) (a1.symm.trans c1)
/-- the memory behind a constructor -/
def tv_s0 (v : Nat) : tv_M := fun k _ => if k = 15 then 1 else if k = 0 then v else if k = 20 then v else 0
set_option maxHeartbeats 4000000 in
theorem tv_iX (l : Launch) (D : va_G) (h0 sz : Nat) (x : Int32) : Met l yX1_init (ws_ yX1_init cX1_init 2 none) ({ frames := 1, cells := 14, slots := 232, locals := 12 } : Room) (va_Pc [.ref h0, .int x] (fun U => U.heap.size = sz ∧ va_P D tv_cl [(h0, .inr (0, [.int 0, .null, .null, .null, .null, .null, .int 0, .null, .null, .int 0, .int 0, .null, .null, .null, .null, .null, .int 0, .int 0, .null, .null]))] U.heap ∧ va_K D tv_cl [] U ∧ va_D (fun _ => True) [(h0, .inr (0, [.int 0, .null, .null, .null, .null, .null, .int 0, .null, .null, .int 0, .int 0, .null, .null, .null, .null, .null, .int 0, .int 0, .null, .null]))])) (va_Qv (fun u : ((Nat → Nat) × (Nat → ClassId) × Nat) => u.1 0 = h0 ∧ tv_cl3 x u.2.2) (fun u t => va_P D tv_cl (tv_wX u.1 u.2.1 (tv_s0 u.2.2)) t.heap ∧ va_K D tv_cl (tv_tX u.2.1) t ∧ va_D (va_A [(h0, .inr (0, [.int 0, .null, .null, .null, .null, .null, .int 0, .null, .null, .int 0, .int 0, .null, .null, .null, .null, .null, .int 0, .int 0, .null, .null]))] sz) (tv_wX u.1 u.2.1 (tv_s0 u.2.2))) (va_A [(h0, .inr (0, [.int 0, .null, .null, .null, .null, .null, .int 0, .null, .null, .int 0, .int 0, .null, .null, .null, .null, .null, .int 0, .int 0, .null, .null]))] sz)) 14 232 (va_A [(h0, .inr (0, [.int 0, .null, .null, .null, .null, .null, .int 0, .null, .null, .int 0, .int 0, .null, .null, .null, .null, .null, .int 0, .int 0, .null, .null]))] sz) := by
  refine Met.ofW (cc := cX1_init) (maxL := 2) (ret := none) (by decide) rfl ?_
  intro p e s m args below meth c s₁ B hml hv
  obtain ⟨rfl, hsz, hP, hK, hD0⟩ := hv
  have hx := B.exec
  have hb := B.bytes
  have hr := B.returns
  have hts := atoms_spec (ws := ws_ yX1_init cX1_init 2 none) B.pre
  have hts : ∀ w ∈ lw_all, w.before _ s = true := fun w h => hts w (List.mem_cons_of_mem _ h)
  have hown : s.vm.findClass RX1 = some m.cls := findClass_of_methodNamed B.named
  have hlocks := B.notSynchronized
  have hin : meth.name = "<init>" := (name_of_methodNamed B.named B.method).1
  subst hsz
  have hD := hD0.self (sz := s.heap.size)
  generalize hAe : va_A [(h0, .inr (0, [.int 0, .null, .null, .null, .null, .null, .int 0, .null, .null, .int 0, .int 0, .null, .null, .null, .null, .null, .int 0, .int 0, .null, .null]))] s.heap.size = A at hD ⊢
  have hA : ∀ q : Nat, s.heap.size ≤ q → A q := fun q h => by rw [← hAe]; exact Or.inr h
  have hS : va_S A s.heap s.heap [] := va_S.rf
  have hl := lv_entry ([.ref h0, .int x]) (n := 2) (Nat.le_of_ble_eq_true rfl)
  rw [lg_entry_eq]
  generalize (lg_sl ([.ref h0, .int x]) ++ List.replicate (2 - (lg_sl ([.ref h0, .int x])).length) Slot.unset).toArray = ls at hl ⊢
  have hl : lv_has ls 2 [(0, .ref h0), (1, .int x)] := hl
  refine lv_aload_n hx hb dX1_init_0 rfl (lv_at hl 0 rfl) ?_
  refine W.objInit hx hb hown (hts _ q29) (hts _ q30) (hts _ q31) rfl (by rw [hml]; exact hl.1) rfl dX1_init_1 (Nat.le_of_ble_eq_true rfl) (Nat.le_of_ble_eq_true rfl) ?_
  refine W.eq (g2 := F0 m 4 ls []) rfl ?_
  refine lv_aload_n hx hb dX1_init_4 rfl (lv_at hl 0 rfl) ?_
  refine lv_bipush (v := nI 18) hx hb dX1_init_5 rfl ?_
  refine va_newa (atype := .byte) (ty := .byte) (N' := 18) (a0 := (18, .inl (fun _ => nI 0))) hx hb (hts _ q93) rfl hK hP hD hS hA (tv_haB 18 (nI 0) (by decide)) (nI_pos (by decide)) (nI_clamp (by decide)) (by decide) (Nat.le_of_ble_eq_true rfl) (Nat.le_of_ble_eq_true rfl) dX1_init_7 (fun q1 d1 H hK hP hD hS => ?_)
  have hP : va_P D tv_cl [(h0, .inr (0, [.int 0, .null, .null, .null, .null, .null, .int 0, .null, .null, .int 0, .int 0, .null, .null, .null, .null, .null, .int 0, .int 0, .null, .null])), (q1, .inl (d1, 18, .inl (fun _ => nI 0)))] H := hP
  have hD : va_D A [(h0, .inr (0, [.int 0, .null, .null, .null, .null, .null, .int 0, .null, .null, .int 0, .int 0, .null, .null, .null, .null, .null, .int 0, .int 0, .null, .null])), (q1, .inl (d1, 18, .inl (fun _ => nI 0)))] := hD
  have hK : va_K D tv_cl [(d1, .byte)] s := hK
  refine va_putF (D := D) (ci := 0) (v := .ref q1) (ty := .array .byte) (C := RX1) (T := TX1) (N := 20) hx hb hts in_X1 tyX1 tyX1_ok nmX1 hown hK hP hD hS 0 rfl rfl 1 (by decide) (hts _ q33) (fun _ h9 => h9) rfl hin rfl (by decide +kernel) rfl rfl (Nat.le_of_ble_eq_true rfl) dX1_init_9 (fun H locs hP hD hS => ?_)
  have hP : va_P D tv_cl [(h0, .inr (0, [.int 0, .ref q1, .null, .null, .null, .null, .int 0, .null, .null, .int 0, .int 0, .null, .null, .null, .null, .null, .int 0, .int 0, .null, .null])), (q1, .inl (d1, 18, .inl (fun _ => nI 0)))] H := hP
  have hD : va_D A [(h0, .inr (0, [.int 0, .ref q1, .null, .null, .null, .null, .int 0, .null, .null, .int 0, .int 0, .null, .null, .null, .null, .null, .int 0, .int 0, .null, .null])), (q1, .inl (d1, 18, .inl (fun _ => nI 0)))] := hD
  refine lv_aload_n hx hb dX1_init_12 rfl (lv_at hl 0 rfl) ?_
  refine lv_iconst (v := nI 2) hx hb dX1_init_13 rfl ?_
  refine va_newa (atype := .byte) (ty := .byte) (N' := 2) (a0 := (2, .inl (fun _ => nI 0))) hx hb (hts _ q93) rfl hK hP hD hS hA (tv_haB 2 (nI 0) (by decide)) (nI_pos (by decide)) (nI_clamp (by decide)) (by decide) (Nat.le_of_ble_eq_true rfl) (Nat.le_of_ble_eq_true rfl) dX1_init_14 (fun q2 d2 H hK hP hD hS => ?_)
  have hP : va_P D tv_cl [(h0, .inr (0, [.int 0, .ref q1, .null, .null, .null, .null, .int 0, .null, .null, .int 0, .int 0, .null, .null, .null, .null, .null, .int 0, .int 0, .null, .null])), (q1, .inl (d1, 18, .inl (fun _ => nI 0))), (q2, .inl (d2, 2, .inl (fun _ => nI 0)))] H := hP
  have hD : va_D A [(h0, .inr (0, [.int 0, .ref q1, .null, .null, .null, .null, .int 0, .null, .null, .int 0, .int 0, .null, .null, .null, .null, .null, .int 0, .int 0, .null, .null])), (q1, .inl (d1, 18, .inl (fun _ => nI 0))), (q2, .inl (d2, 2, .inl (fun _ => nI 0)))] := hD
  have hK : va_K D tv_cl [(d1, .byte), (d2, .byte)] s := hK
  refine va_putF (D := D) (ci := 0) (v := .ref q2) (ty := .array .byte) (C := RX1) (T := TX1) (N := 20) hx hb hts in_X1 tyX1 tyX1_ok nmX1 hown hK hP hD hS 0 rfl rfl 2 (by decide) (hts _ q34) (fun _ h9 => h9) rfl hin rfl (by decide +kernel) rfl rfl (Nat.le_of_ble_eq_true rfl) dX1_init_16 (fun H locs hP hD hS => ?_)
  have hP : va_P D tv_cl [(h0, .inr (0, [.int 0, .ref q1, .ref q2, .null, .null, .null, .int 0, .null, .null, .int 0, .int 0, .null, .null, .null, .null, .null, .int 0, .int 0, .null, .null])), (q1, .inl (d1, 18, .inl (fun _ => nI 0))), (q2, .inl (d2, 2, .inl (fun _ => nI 0)))] H := hP
  have hD : va_D A [(h0, .inr (0, [.int 0, .ref q1, .ref q2, .null, .null, .null, .int 0, .null, .null, .int 0, .int 0, .null, .null, .null, .null, .null, .int 0, .int 0, .null, .null])), (q1, .inl (d1, 18, .inl (fun _ => nI 0))), (q2, .inl (d2, 2, .inl (fun _ => nI 0)))] := hD
  refine lv_aload_n hx hb dX1_init_19 rfl (lv_at hl 0 rfl) ?_
  refine lv_bipush (v := nI 18) hx hb dX1_init_20 rfl ?_
  refine va_newa (atype := .byte) (ty := .byte) (N' := 18) (a0 := (18, .inl (fun _ => nI 0))) hx hb (hts _ q93) rfl hK hP hD hS hA (tv_haB 18 (nI 0) (by decide)) (nI_pos (by decide)) (nI_clamp (by decide)) (by decide) (Nat.le_of_ble_eq_true rfl) (Nat.le_of_ble_eq_true rfl) dX1_init_22 (fun q3 d3 H hK hP hD hS => ?_)
  have hP : va_P D tv_cl [(h0, .inr (0, [.int 0, .ref q1, .ref q2, .null, .null, .null, .int 0, .null, .null, .int 0, .int 0, .null, .null, .null, .null, .null, .int 0, .int 0, .null, .null])), (q1, .inl (d1, 18, .inl (fun _ => nI 0))), (q2, .inl (d2, 2, .inl (fun _ => nI 0))), (q3, .inl (d3, 18, .inl (fun _ => nI 0)))] H := hP
  have hD : va_D A [(h0, .inr (0, [.int 0, .ref q1, .ref q2, .null, .null, .null, .int 0, .null, .null, .int 0, .int 0, .null, .null, .null, .null, .null, .int 0, .int 0, .null, .null])), (q1, .inl (d1, 18, .inl (fun _ => nI 0))), (q2, .inl (d2, 2, .inl (fun _ => nI 0))), (q3, .inl (d3, 18, .inl (fun _ => nI 0)))] := hD
  have hK : va_K D tv_cl [(d1, .byte), (d2, .byte), (d3, .byte)] s := hK
  refine va_putF (D := D) (ci := 0) (v := .ref q3) (ty := .array .byte) (C := RX1) (T := TX1) (N := 20) hx hb hts in_X1 tyX1 tyX1_ok nmX1 hown hK hP hD hS 0 rfl rfl 3 (by decide) (hts _ q35) (fun _ h9 => h9) rfl hin rfl (by decide +kernel) rfl rfl (Nat.le_of_ble_eq_true rfl) dX1_init_24 (fun H locs hP hD hS => ?_)
  have hP : va_P D tv_cl [(h0, .inr (0, [.int 0, .ref q1, .ref q2, .ref q3, .null, .null, .int 0, .null, .null, .int 0, .int 0, .null, .null, .null, .null, .null, .int 0, .int 0, .null, .null])), (q1, .inl (d1, 18, .inl (fun _ => nI 0))), (q2, .inl (d2, 2, .inl (fun _ => nI 0))), (q3, .inl (d3, 18, .inl (fun _ => nI 0)))] H := hP
  have hD : va_D A [(h0, .inr (0, [.int 0, .ref q1, .ref q2, .ref q3, .null, .null, .int 0, .null, .null, .int 0, .int 0, .null, .null, .null, .null, .null, .int 0, .int 0, .null, .null])), (q1, .inl (d1, 18, .inl (fun _ => nI 0))), (q2, .inl (d2, 2, .inl (fun _ => nI 0))), (q3, .inl (d3, 18, .inl (fun _ => nI 0)))] := hD
  refine lv_aload_n hx hb dX1_init_27 rfl (lv_at hl 0 rfl) ?_
  refine lv_bipush (v := nI 10) hx hb dX1_init_28 rfl ?_
  refine va_newa (atype := .byte) (ty := .byte) (N' := 10) (a0 := (10, .inl (fun _ => nI 0))) hx hb (hts _ q93) rfl hK hP hD hS hA (tv_haB 10 (nI 0) (by decide)) (nI_pos (by decide)) (nI_clamp (by decide)) (by decide) (Nat.le_of_ble_eq_true rfl) (Nat.le_of_ble_eq_true rfl) dX1_init_30 (fun q4 d4 H hK hP hD hS => ?_)
  have hP : va_P D tv_cl [(h0, .inr (0, [.int 0, .ref q1, .ref q2, .ref q3, .null, .null, .int 0, .null, .null, .int 0, .int 0, .null, .null, .null, .null, .null, .int 0, .int 0, .null, .null])), (q1, .inl (d1, 18, .inl (fun _ => nI 0))), (q2, .inl (d2, 2, .inl (fun _ => nI 0))), (q3, .inl (d3, 18, .inl (fun _ => nI 0))), (q4, .inl (d4, 10, .inl (fun _ => nI 0)))] H := hP
  have hD : va_D A [(h0, .inr (0, [.int 0, .ref q1, .ref q2, .ref q3, .null, .null, .int 0, .null, .null, .int 0, .int 0, .null, .null, .null, .null, .null, .int 0, .int 0, .null, .null])), (q1, .inl (d1, 18, .inl (fun _ => nI 0))), (q2, .inl (d2, 2, .inl (fun _ => nI 0))), (q3, .inl (d3, 18, .inl (fun _ => nI 0))), (q4, .inl (d4, 10, .inl (fun _ => nI 0)))] := hD
  have hK : va_K D tv_cl [(d1, .byte), (d2, .byte), (d3, .byte), (d4, .byte)] s := hK
  refine va_putF (D := D) (ci := 0) (v := .ref q4) (ty := .array .byte) (C := RX1) (T := TX1) (N := 20) hx hb hts in_X1 tyX1 tyX1_ok nmX1 hown hK hP hD hS 0 rfl rfl 4 (by decide) (hts _ q36) (fun _ h9 => h9) rfl hin rfl (by decide +kernel) rfl rfl (Nat.le_of_ble_eq_true rfl) dX1_init_32 (fun H locs hP hD hS => ?_)
  have hP : va_P D tv_cl [(h0, .inr (0, [.int 0, .ref q1, .ref q2, .ref q3, .ref q4, .null, .int 0, .null, .null, .int 0, .int 0, .null, .null, .null, .null, .null, .int 0, .int 0, .null, .null])), (q1, .inl (d1, 18, .inl (fun _ => nI 0))), (q2, .inl (d2, 2, .inl (fun _ => nI 0))), (q3, .inl (d3, 18, .inl (fun _ => nI 0))), (q4, .inl (d4, 10, .inl (fun _ => nI 0)))] H := hP
  have hD : va_D A [(h0, .inr (0, [.int 0, .ref q1, .ref q2, .ref q3, .ref q4, .null, .int 0, .null, .null, .int 0, .int 0, .null, .null, .null, .null, .null, .int 0, .int 0, .null, .null])), (q1, .inl (d1, 18, .inl (fun _ => nI 0))), (q2, .inl (d2, 2, .inl (fun _ => nI 0))), (q3, .inl (d3, 18, .inl (fun _ => nI 0))), (q4, .inl (d4, 10, .inl (fun _ => nI 0)))] := hD
  refine lv_aload_n hx hb dX1_init_35 rfl (lv_at hl 0 rfl) ?_
  refine lv_bipush (v := nI 10) hx hb dX1_init_36 rfl ?_
  refine va_newa (atype := .byte) (ty := .byte) (N' := 10) (a0 := (10, .inl (fun _ => nI 0))) hx hb (hts _ q93) rfl hK hP hD hS hA (tv_haB 10 (nI 0) (by decide)) (nI_pos (by decide)) (nI_clamp (by decide)) (by decide) (Nat.le_of_ble_eq_true rfl) (Nat.le_of_ble_eq_true rfl) dX1_init_38 (fun q5 d5 H hK hP hD hS => ?_)
  have hP : va_P D tv_cl [(h0, .inr (0, [.int 0, .ref q1, .ref q2, .ref q3, .ref q4, .null, .int 0, .null, .null, .int 0, .int 0, .null, .null, .null, .null, .null, .int 0, .int 0, .null, .null])), (q1, .inl (d1, 18, .inl (fun _ => nI 0))), (q2, .inl (d2, 2, .inl (fun _ => nI 0))), (q3, .inl (d3, 18, .inl (fun _ => nI 0))), (q4, .inl (d4, 10, .inl (fun _ => nI 0))), (q5, .inl (d5, 10, .inl (fun _ => nI 0)))] H := hP
  have hD : va_D A [(h0, .inr (0, [.int 0, .ref q1, .ref q2, .ref q3, .ref q4, .null, .int 0, .null, .null, .int 0, .int 0, .null, .null, .null, .null, .null, .int 0, .int 0, .null, .null])), (q1, .inl (d1, 18, .inl (fun _ => nI 0))), (q2, .inl (d2, 2, .inl (fun _ => nI 0))), (q3, .inl (d3, 18, .inl (fun _ => nI 0))), (q4, .inl (d4, 10, .inl (fun _ => nI 0))), (q5, .inl (d5, 10, .inl (fun _ => nI 0)))] := hD
  have hK : va_K D tv_cl [(d1, .byte), (d2, .byte), (d3, .byte), (d4, .byte), (d5, .byte)] s := hK
  refine va_putF (D := D) (ci := 0) (v := .ref q5) (ty := .array .byte) (C := RX1) (T := TX1) (N := 20) hx hb hts in_X1 tyX1 tyX1_ok nmX1 hown hK hP hD hS 0 rfl rfl 5 (by decide) (hts _ q37) (fun _ h9 => h9) rfl hin rfl (by decide +kernel) rfl rfl (Nat.le_of_ble_eq_true rfl) dX1_init_40 (fun H locs hP hD hS => ?_)
  have hP : va_P D tv_cl [(h0, .inr (0, [.int 0, .ref q1, .ref q2, .ref q3, .ref q4, .ref q5, .int 0, .null, .null, .int 0, .int 0, .null, .null, .null, .null, .null, .int 0, .int 0, .null, .null])), (q1, .inl (d1, 18, .inl (fun _ => nI 0))), (q2, .inl (d2, 2, .inl (fun _ => nI 0))), (q3, .inl (d3, 18, .inl (fun _ => nI 0))), (q4, .inl (d4, 10, .inl (fun _ => nI 0))), (q5, .inl (d5, 10, .inl (fun _ => nI 0)))] H := hP
  have hD : va_D A [(h0, .inr (0, [.int 0, .ref q1, .ref q2, .ref q3, .ref q4, .ref q5, .int 0, .null, .null, .int 0, .int 0, .null, .null, .null, .null, .null, .int 0, .int 0, .null, .null])), (q1, .inl (d1, 18, .inl (fun _ => nI 0))), (q2, .inl (d2, 2, .inl (fun _ => nI 0))), (q3, .inl (d3, 18, .inl (fun _ => nI 0))), (q4, .inl (d4, 10, .inl (fun _ => nI 0))), (q5, .inl (d5, 10, .inl (fun _ => nI 0)))] := hD
  refine lv_aload_n hx hb dX1_init_43 rfl (lv_at hl 0 rfl) ?_
  refine lv_bipush (v := nI 32) hx hb dX1_init_44 rfl ?_
  refine va_newa (atype := .byte) (ty := .byte) (N' := 32) (a0 := (32, .inl (fun _ => nI 0))) hx hb (hts _ q93) rfl hK hP hD hS hA (tv_haB 32 (nI 0) (by decide)) (nI_pos (by decide)) (nI_clamp (by decide)) (by decide) (Nat.le_of_ble_eq_true rfl) (Nat.le_of_ble_eq_true rfl) dX1_init_46 (fun q7 d7 H hK hP hD hS => ?_)
  have hP : va_P D tv_cl [(h0, .inr (0, [.int 0, .ref q1, .ref q2, .ref q3, .ref q4, .ref q5, .int 0, .null, .null, .int 0, .int 0, .null, .null, .null, .null, .null, .int 0, .int 0, .null, .null])), (q1, .inl (d1, 18, .inl (fun _ => nI 0))), (q2, .inl (d2, 2, .inl (fun _ => nI 0))), (q3, .inl (d3, 18, .inl (fun _ => nI 0))), (q4, .inl (d4, 10, .inl (fun _ => nI 0))), (q5, .inl (d5, 10, .inl (fun _ => nI 0))), (q7, .inl (d7, 32, .inl (fun _ => nI 0)))] H := hP
  have hD : va_D A [(h0, .inr (0, [.int 0, .ref q1, .ref q2, .ref q3, .ref q4, .ref q5, .int 0, .null, .null, .int 0, .int 0, .null, .null, .null, .null, .null, .int 0, .int 0, .null, .null])), (q1, .inl (d1, 18, .inl (fun _ => nI 0))), (q2, .inl (d2, 2, .inl (fun _ => nI 0))), (q3, .inl (d3, 18, .inl (fun _ => nI 0))), (q4, .inl (d4, 10, .inl (fun _ => nI 0))), (q5, .inl (d5, 10, .inl (fun _ => nI 0))), (q7, .inl (d7, 32, .inl (fun _ => nI 0)))] := hD
  have hK : va_K D tv_cl [(d1, .byte), (d2, .byte), (d3, .byte), (d4, .byte), (d5, .byte), (d7, .byte)] s := hK
  refine va_putF (D := D) (ci := 0) (v := .ref q7) (ty := .array .byte) (C := RX1) (T := TX1) (N := 20) hx hb hts in_X1 tyX1 tyX1_ok nmX1 hown hK hP hD hS 0 rfl rfl 7 (by decide) (hts _ q39) (fun _ h9 => h9) rfl hin rfl (by decide +kernel) rfl rfl (Nat.le_of_ble_eq_true rfl) dX1_init_48 (fun H locs hP hD hS => ?_)
  have hP : va_P D tv_cl [(h0, .inr (0, [.int 0, .ref q1, .ref q2, .ref q3, .ref q4, .ref q5, .int 0, .ref q7, .null, .int 0, .int 0, .null, .null, .null, .null, .null, .int 0, .int 0, .null, .null])), (q1, .inl (d1, 18, .inl (fun _ => nI 0))), (q2, .inl (d2, 2, .inl (fun _ => nI 0))), (q3, .inl (d3, 18, .inl (fun _ => nI 0))), (q4, .inl (d4, 10, .inl (fun _ => nI 0))), (q5, .inl (d5, 10, .inl (fun _ => nI 0))), (q7, .inl (d7, 32, .inl (fun _ => nI 0)))] H := hP
  have hD : va_D A [(h0, .inr (0, [.int 0, .ref q1, .ref q2, .ref q3, .ref q4, .ref q5, .int 0, .ref q7, .null, .int 0, .int 0, .null, .null, .null, .null, .null, .int 0, .int 0, .null, .null])), (q1, .inl (d1, 18, .inl (fun _ => nI 0))), (q2, .inl (d2, 2, .inl (fun _ => nI 0))), (q3, .inl (d3, 18, .inl (fun _ => nI 0))), (q4, .inl (d4, 10, .inl (fun _ => nI 0))), (q5, .inl (d5, 10, .inl (fun _ => nI 0))), (q7, .inl (d7, 32, .inl (fun _ => nI 0)))] := hD
  refine lv_aload_n hx hb dX1_init_51 rfl (lv_at hl 0 rfl) ?_
  refine lv_bipush (v := nI 32) hx hb dX1_init_52 rfl ?_
  refine va_newa (atype := .byte) (ty := .byte) (N' := 32) (a0 := (32, .inl (fun _ => nI 0))) hx hb (hts _ q93) rfl hK hP hD hS hA (tv_haB 32 (nI 0) (by decide)) (nI_pos (by decide)) (nI_clamp (by decide)) (by decide) (Nat.le_of_ble_eq_true rfl) (Nat.le_of_ble_eq_true rfl) dX1_init_54 (fun q8 d8 H hK hP hD hS => ?_)
  have hP : va_P D tv_cl [(h0, .inr (0, [.int 0, .ref q1, .ref q2, .ref q3, .ref q4, .ref q5, .int 0, .ref q7, .null, .int 0, .int 0, .null, .null, .null, .null, .null, .int 0, .int 0, .null, .null])), (q1, .inl (d1, 18, .inl (fun _ => nI 0))), (q2, .inl (d2, 2, .inl (fun _ => nI 0))), (q3, .inl (d3, 18, .inl (fun _ => nI 0))), (q4, .inl (d4, 10, .inl (fun _ => nI 0))), (q5, .inl (d5, 10, .inl (fun _ => nI 0))), (q7, .inl (d7, 32, .inl (fun _ => nI 0))), (q8, .inl (d8, 32, .inl (fun _ => nI 0)))] H := hP
  have hD : va_D A [(h0, .inr (0, [.int 0, .ref q1, .ref q2, .ref q3, .ref q4, .ref q5, .int 0, .ref q7, .null, .int 0, .int 0, .null, .null, .null, .null, .null, .int 0, .int 0, .null, .null])), (q1, .inl (d1, 18, .inl (fun _ => nI 0))), (q2, .inl (d2, 2, .inl (fun _ => nI 0))), (q3, .inl (d3, 18, .inl (fun _ => nI 0))), (q4, .inl (d4, 10, .inl (fun _ => nI 0))), (q5, .inl (d5, 10, .inl (fun _ => nI 0))), (q7, .inl (d7, 32, .inl (fun _ => nI 0))), (q8, .inl (d8, 32, .inl (fun _ => nI 0)))] := hD
  have hK : va_K D tv_cl [(d1, .byte), (d2, .byte), (d3, .byte), (d4, .byte), (d5, .byte), (d7, .byte), (d8, .byte)] s := hK
  refine va_putF (D := D) (ci := 0) (v := .ref q8) (ty := .array .byte) (C := RX1) (T := TX1) (N := 20) hx hb hts in_X1 tyX1 tyX1_ok nmX1 hown hK hP hD hS 0 rfl rfl 8 (by decide) (hts _ q40) (fun _ h9 => h9) rfl hin rfl (by decide +kernel) rfl rfl (Nat.le_of_ble_eq_true rfl) dX1_init_56 (fun H locs hP hD hS => ?_)
  have hP : va_P D tv_cl [(h0, .inr (0, [.int 0, .ref q1, .ref q2, .ref q3, .ref q4, .ref q5, .int 0, .ref q7, .ref q8, .int 0, .int 0, .null, .null, .null, .null, .null, .int 0, .int 0, .null, .null])), (q1, .inl (d1, 18, .inl (fun _ => nI 0))), (q2, .inl (d2, 2, .inl (fun _ => nI 0))), (q3, .inl (d3, 18, .inl (fun _ => nI 0))), (q4, .inl (d4, 10, .inl (fun _ => nI 0))), (q5, .inl (d5, 10, .inl (fun _ => nI 0))), (q7, .inl (d7, 32, .inl (fun _ => nI 0))), (q8, .inl (d8, 32, .inl (fun _ => nI 0)))] H := hP
  have hD : va_D A [(h0, .inr (0, [.int 0, .ref q1, .ref q2, .ref q3, .ref q4, .ref q5, .int 0, .ref q7, .ref q8, .int 0, .int 0, .null, .null, .null, .null, .null, .int 0, .int 0, .null, .null])), (q1, .inl (d1, 18, .inl (fun _ => nI 0))), (q2, .inl (d2, 2, .inl (fun _ => nI 0))), (q3, .inl (d3, 18, .inl (fun _ => nI 0))), (q4, .inl (d4, 10, .inl (fun _ => nI 0))), (q5, .inl (d5, 10, .inl (fun _ => nI 0))), (q7, .inl (d7, 32, .inl (fun _ => nI 0))), (q8, .inl (d8, 32, .inl (fun _ => nI 0)))] := hD
  refine lv_aload_n hx hb dX1_init_59 rfl (lv_at hl 0 rfl) ?_
  refine lv_iconst (v := nI 4) hx hb dX1_init_60 rfl ?_
  refine va_newa (atype := .byte) (ty := .byte) (N' := 4) (a0 := (4, .inl (fun _ => nI 0))) hx hb (hts _ q93) rfl hK hP hD hS hA (tv_haB 4 (nI 0) (by decide)) (nI_pos (by decide)) (nI_clamp (by decide)) (by decide) (Nat.le_of_ble_eq_true rfl) (Nat.le_of_ble_eq_true rfl) dX1_init_61 (fun q11 d11 H hK hP hD hS => ?_)
  have hP : va_P D tv_cl [(h0, .inr (0, [.int 0, .ref q1, .ref q2, .ref q3, .ref q4, .ref q5, .int 0, .ref q7, .ref q8, .int 0, .int 0, .null, .null, .null, .null, .null, .int 0, .int 0, .null, .null])), (q1, .inl (d1, 18, .inl (fun _ => nI 0))), (q2, .inl (d2, 2, .inl (fun _ => nI 0))), (q3, .inl (d3, 18, .inl (fun _ => nI 0))), (q4, .inl (d4, 10, .inl (fun _ => nI 0))), (q5, .inl (d5, 10, .inl (fun _ => nI 0))), (q7, .inl (d7, 32, .inl (fun _ => nI 0))), (q8, .inl (d8, 32, .inl (fun _ => nI 0))), (q11, .inl (d11, 4, .inl (fun _ => nI 0)))] H := hP
  have hD : va_D A [(h0, .inr (0, [.int 0, .ref q1, .ref q2, .ref q3, .ref q4, .ref q5, .int 0, .ref q7, .ref q8, .int 0, .int 0, .null, .null, .null, .null, .null, .int 0, .int 0, .null, .null])), (q1, .inl (d1, 18, .inl (fun _ => nI 0))), (q2, .inl (d2, 2, .inl (fun _ => nI 0))), (q3, .inl (d3, 18, .inl (fun _ => nI 0))), (q4, .inl (d4, 10, .inl (fun _ => nI 0))), (q5, .inl (d5, 10, .inl (fun _ => nI 0))), (q7, .inl (d7, 32, .inl (fun _ => nI 0))), (q8, .inl (d8, 32, .inl (fun _ => nI 0))), (q11, .inl (d11, 4, .inl (fun _ => nI 0)))] := hD
  have hK : va_K D tv_cl [(d1, .byte), (d2, .byte), (d3, .byte), (d4, .byte), (d5, .byte), (d7, .byte), (d8, .byte), (d11, .byte)] s := hK
  refine va_putF (D := D) (ci := 0) (v := .ref q11) (ty := .array .byte) (C := RX1) (T := TX1) (N := 20) hx hb hts in_X1 tyX1 tyX1_ok nmX1 hown hK hP hD hS 0 rfl rfl 11 (by decide) (hts _ q43) (fun _ h9 => h9) rfl hin rfl (by decide +kernel) rfl rfl (Nat.le_of_ble_eq_true rfl) dX1_init_63 (fun H locs hP hD hS => ?_)
  have hP : va_P D tv_cl [(h0, .inr (0, [.int 0, .ref q1, .ref q2, .ref q3, .ref q4, .ref q5, .int 0, .ref q7, .ref q8, .int 0, .int 0, .ref q11, .null, .null, .null, .null, .int 0, .int 0, .null, .null])), (q1, .inl (d1, 18, .inl (fun _ => nI 0))), (q2, .inl (d2, 2, .inl (fun _ => nI 0))), (q3, .inl (d3, 18, .inl (fun _ => nI 0))), (q4, .inl (d4, 10, .inl (fun _ => nI 0))), (q5, .inl (d5, 10, .inl (fun _ => nI 0))), (q7, .inl (d7, 32, .inl (fun _ => nI 0))), (q8, .inl (d8, 32, .inl (fun _ => nI 0))), (q11, .inl (d11, 4, .inl (fun _ => nI 0)))] H := hP
  have hD : va_D A [(h0, .inr (0, [.int 0, .ref q1, .ref q2, .ref q3, .ref q4, .ref q5, .int 0, .ref q7, .ref q8, .int 0, .int 0, .ref q11, .null, .null, .null, .null, .int 0, .int 0, .null, .null])), (q1, .inl (d1, 18, .inl (fun _ => nI 0))), (q2, .inl (d2, 2, .inl (fun _ => nI 0))), (q3, .inl (d3, 18, .inl (fun _ => nI 0))), (q4, .inl (d4, 10, .inl (fun _ => nI 0))), (q5, .inl (d5, 10, .inl (fun _ => nI 0))), (q7, .inl (d7, 32, .inl (fun _ => nI 0))), (q8, .inl (d8, 32, .inl (fun _ => nI 0))), (q11, .inl (d11, 4, .inl (fun _ => nI 0)))] := hD
  refine lv_aload_n hx hb dX1_init_66 rfl (lv_at hl 0 rfl) ?_
  refine lv_bipush (v := nI 12) hx hb dX1_init_67 rfl ?_
  refine va_newa (atype := .byte) (ty := .byte) (N' := 12) (a0 := (12, .inl (fun _ => nI 0))) hx hb (hts _ q93) rfl hK hP hD hS hA (tv_haB 12 (nI 0) (by decide)) (nI_pos (by decide)) (nI_clamp (by decide)) (by decide) (Nat.le_of_ble_eq_true rfl) (Nat.le_of_ble_eq_true rfl) dX1_init_69 (fun q12 d12 H hK hP hD hS => ?_)
  have hP : va_P D tv_cl [(h0, .inr (0, [.int 0, .ref q1, .ref q2, .ref q3, .ref q4, .ref q5, .int 0, .ref q7, .ref q8, .int 0, .int 0, .ref q11, .null, .null, .null, .null, .int 0, .int 0, .null, .null])), (q1, .inl (d1, 18, .inl (fun _ => nI 0))), (q2, .inl (d2, 2, .inl (fun _ => nI 0))), (q3, .inl (d3, 18, .inl (fun _ => nI 0))), (q4, .inl (d4, 10, .inl (fun _ => nI 0))), (q5, .inl (d5, 10, .inl (fun _ => nI 0))), (q7, .inl (d7, 32, .inl (fun _ => nI 0))), (q8, .inl (d8, 32, .inl (fun _ => nI 0))), (q11, .inl (d11, 4, .inl (fun _ => nI 0))), (q12, .inl (d12, 12, .inl (fun _ => nI 0)))] H := hP
  have hD : va_D A [(h0, .inr (0, [.int 0, .ref q1, .ref q2, .ref q3, .ref q4, .ref q5, .int 0, .ref q7, .ref q8, .int 0, .int 0, .ref q11, .null, .null, .null, .null, .int 0, .int 0, .null, .null])), (q1, .inl (d1, 18, .inl (fun _ => nI 0))), (q2, .inl (d2, 2, .inl (fun _ => nI 0))), (q3, .inl (d3, 18, .inl (fun _ => nI 0))), (q4, .inl (d4, 10, .inl (fun _ => nI 0))), (q5, .inl (d5, 10, .inl (fun _ => nI 0))), (q7, .inl (d7, 32, .inl (fun _ => nI 0))), (q8, .inl (d8, 32, .inl (fun _ => nI 0))), (q11, .inl (d11, 4, .inl (fun _ => nI 0))), (q12, .inl (d12, 12, .inl (fun _ => nI 0)))] := hD
  have hK : va_K D tv_cl [(d1, .byte), (d2, .byte), (d3, .byte), (d4, .byte), (d5, .byte), (d7, .byte), (d8, .byte), (d11, .byte), (d12, .byte)] s := hK
  refine va_putF (D := D) (ci := 0) (v := .ref q12) (ty := .array .byte) (C := RX1) (T := TX1) (N := 20) hx hb hts in_X1 tyX1 tyX1_ok nmX1 hown hK hP hD hS 0 rfl rfl 12 (by decide) (hts _ q44) (fun _ h9 => h9) rfl hin rfl (by decide +kernel) rfl rfl (Nat.le_of_ble_eq_true rfl) dX1_init_71 (fun H locs hP hD hS => ?_)
  have hP : va_P D tv_cl [(h0, .inr (0, [.int 0, .ref q1, .ref q2, .ref q3, .ref q4, .ref q5, .int 0, .ref q7, .ref q8, .int 0, .int 0, .ref q11, .ref q12, .null, .null, .null, .int 0, .int 0, .null, .null])), (q1, .inl (d1, 18, .inl (fun _ => nI 0))), (q2, .inl (d2, 2, .inl (fun _ => nI 0))), (q3, .inl (d3, 18, .inl (fun _ => nI 0))), (q4, .inl (d4, 10, .inl (fun _ => nI 0))), (q5, .inl (d5, 10, .inl (fun _ => nI 0))), (q7, .inl (d7, 32, .inl (fun _ => nI 0))), (q8, .inl (d8, 32, .inl (fun _ => nI 0))), (q11, .inl (d11, 4, .inl (fun _ => nI 0))), (q12, .inl (d12, 12, .inl (fun _ => nI 0)))] H := hP
  have hD : va_D A [(h0, .inr (0, [.int 0, .ref q1, .ref q2, .ref q3, .ref q4, .ref q5, .int 0, .ref q7, .ref q8, .int 0, .int 0, .ref q11, .ref q12, .null, .null, .null, .int 0, .int 0, .null, .null])), (q1, .inl (d1, 18, .inl (fun _ => nI 0))), (q2, .inl (d2, 2, .inl (fun _ => nI 0))), (q3, .inl (d3, 18, .inl (fun _ => nI 0))), (q4, .inl (d4, 10, .inl (fun _ => nI 0))), (q5, .inl (d5, 10, .inl (fun _ => nI 0))), (q7, .inl (d7, 32, .inl (fun _ => nI 0))), (q8, .inl (d8, 32, .inl (fun _ => nI 0))), (q11, .inl (d11, 4, .inl (fun _ => nI 0))), (q12, .inl (d12, 12, .inl (fun _ => nI 0)))] := hD
  refine lv_aload_n hx hb dX1_init_74 rfl (lv_at hl 0 rfl) ?_
  refine lv_bipush (v := nI 12) hx hb dX1_init_75 rfl ?_
  refine va_newa (atype := .byte) (ty := .byte) (N' := 12) (a0 := (12, .inl (fun _ => nI 0))) hx hb (hts _ q93) rfl hK hP hD hS hA (tv_haB 12 (nI 0) (by decide)) (nI_pos (by decide)) (nI_clamp (by decide)) (by decide) (Nat.le_of_ble_eq_true rfl) (Nat.le_of_ble_eq_true rfl) dX1_init_77 (fun q13 d13 H hK hP hD hS => ?_)
  have hP : va_P D tv_cl [(h0, .inr (0, [.int 0, .ref q1, .ref q2, .ref q3, .ref q4, .ref q5, .int 0, .ref q7, .ref q8, .int 0, .int 0, .ref q11, .ref q12, .null, .null, .null, .int 0, .int 0, .null, .null])), (q1, .inl (d1, 18, .inl (fun _ => nI 0))), (q2, .inl (d2, 2, .inl (fun _ => nI 0))), (q3, .inl (d3, 18, .inl (fun _ => nI 0))), (q4, .inl (d4, 10, .inl (fun _ => nI 0))), (q5, .inl (d5, 10, .inl (fun _ => nI 0))), (q7, .inl (d7, 32, .inl (fun _ => nI 0))), (q8, .inl (d8, 32, .inl (fun _ => nI 0))), (q11, .inl (d11, 4, .inl (fun _ => nI 0))), (q12, .inl (d12, 12, .inl (fun _ => nI 0))), (q13, .inl (d13, 12, .inl (fun _ => nI 0)))] H := hP
  have hD : va_D A [(h0, .inr (0, [.int 0, .ref q1, .ref q2, .ref q3, .ref q4, .ref q5, .int 0, .ref q7, .ref q8, .int 0, .int 0, .ref q11, .ref q12, .null, .null, .null, .int 0, .int 0, .null, .null])), (q1, .inl (d1, 18, .inl (fun _ => nI 0))), (q2, .inl (d2, 2, .inl (fun _ => nI 0))), (q3, .inl (d3, 18, .inl (fun _ => nI 0))), (q4, .inl (d4, 10, .inl (fun _ => nI 0))), (q5, .inl (d5, 10, .inl (fun _ => nI 0))), (q7, .inl (d7, 32, .inl (fun _ => nI 0))), (q8, .inl (d8, 32, .inl (fun _ => nI 0))), (q11, .inl (d11, 4, .inl (fun _ => nI 0))), (q12, .inl (d12, 12, .inl (fun _ => nI 0))), (q13, .inl (d13, 12, .inl (fun _ => nI 0)))] := hD
  have hK : va_K D tv_cl [(d1, .byte), (d2, .byte), (d3, .byte), (d4, .byte), (d5, .byte), (d7, .byte), (d8, .byte), (d11, .byte), (d12, .byte), (d13, .byte)] s := hK
  refine va_putF (D := D) (ci := 0) (v := .ref q13) (ty := .array .byte) (C := RX1) (T := TX1) (N := 20) hx hb hts in_X1 tyX1 tyX1_ok nmX1 hown hK hP hD hS 0 rfl rfl 13 (by decide) (hts _ q45) (fun _ h9 => h9) rfl hin rfl (by decide +kernel) rfl rfl (Nat.le_of_ble_eq_true rfl) dX1_init_79 (fun H locs hP hD hS => ?_)
  have hP : va_P D tv_cl [(h0, .inr (0, [.int 0, .ref q1, .ref q2, .ref q3, .ref q4, .ref q5, .int 0, .ref q7, .ref q8, .int 0, .int 0, .ref q11, .ref q12, .ref q13, .null, .null, .int 0, .int 0, .null, .null])), (q1, .inl (d1, 18, .inl (fun _ => nI 0))), (q2, .inl (d2, 2, .inl (fun _ => nI 0))), (q3, .inl (d3, 18, .inl (fun _ => nI 0))), (q4, .inl (d4, 10, .inl (fun _ => nI 0))), (q5, .inl (d5, 10, .inl (fun _ => nI 0))), (q7, .inl (d7, 32, .inl (fun _ => nI 0))), (q8, .inl (d8, 32, .inl (fun _ => nI 0))), (q11, .inl (d11, 4, .inl (fun _ => nI 0))), (q12, .inl (d12, 12, .inl (fun _ => nI 0))), (q13, .inl (d13, 12, .inl (fun _ => nI 0)))] H := hP
  have hD : va_D A [(h0, .inr (0, [.int 0, .ref q1, .ref q2, .ref q3, .ref q4, .ref q5, .int 0, .ref q7, .ref q8, .int 0, .int 0, .ref q11, .ref q12, .ref q13, .null, .null, .int 0, .int 0, .null, .null])), (q1, .inl (d1, 18, .inl (fun _ => nI 0))), (q2, .inl (d2, 2, .inl (fun _ => nI 0))), (q3, .inl (d3, 18, .inl (fun _ => nI 0))), (q4, .inl (d4, 10, .inl (fun _ => nI 0))), (q5, .inl (d5, 10, .inl (fun _ => nI 0))), (q7, .inl (d7, 32, .inl (fun _ => nI 0))), (q8, .inl (d8, 32, .inl (fun _ => nI 0))), (q11, .inl (d11, 4, .inl (fun _ => nI 0))), (q12, .inl (d12, 12, .inl (fun _ => nI 0))), (q13, .inl (d13, 12, .inl (fun _ => nI 0)))] := hD
  refine lv_aload_n hx hb dX1_init_82 rfl (lv_at hl 0 rfl) ?_
  refine lv_bipush (v := nI 48) hx hb dX1_init_83 rfl ?_
  refine va_newa (atype := .byte) (ty := .byte) (N' := 48) (a0 := (48, .inl (fun _ => nI 0))) hx hb (hts _ q93) rfl hK hP hD hS hA (tv_haB 48 (nI 0) (by decide)) (nI_pos (by decide)) (nI_clamp (by decide)) (by decide) (Nat.le_of_ble_eq_true rfl) (Nat.le_of_ble_eq_true rfl) dX1_init_85 (fun q14 d14 H hK hP hD hS => ?_)
  have hP : va_P D tv_cl [(h0, .inr (0, [.int 0, .ref q1, .ref q2, .ref q3, .ref q4, .ref q5, .int 0, .ref q7, .ref q8, .int 0, .int 0, .ref q11, .ref q12, .ref q13, .null, .null, .int 0, .int 0, .null, .null])), (q1, .inl (d1, 18, .inl (fun _ => nI 0))), (q2, .inl (d2, 2, .inl (fun _ => nI 0))), (q3, .inl (d3, 18, .inl (fun _ => nI 0))), (q4, .inl (d4, 10, .inl (fun _ => nI 0))), (q5, .inl (d5, 10, .inl (fun _ => nI 0))), (q7, .inl (d7, 32, .inl (fun _ => nI 0))), (q8, .inl (d8, 32, .inl (fun _ => nI 0))), (q11, .inl (d11, 4, .inl (fun _ => nI 0))), (q12, .inl (d12, 12, .inl (fun _ => nI 0))), (q13, .inl (d13, 12, .inl (fun _ => nI 0))), (q14, .inl (d14, 48, .inl (fun _ => nI 0)))] H := hP
  have hD : va_D A [(h0, .inr (0, [.int 0, .ref q1, .ref q2, .ref q3, .ref q4, .ref q5, .int 0, .ref q7, .ref q8, .int 0, .int 0, .ref q11, .ref q12, .ref q13, .null, .null, .int 0, .int 0, .null, .null])), (q1, .inl (d1, 18, .inl (fun _ => nI 0))), (q2, .inl (d2, 2, .inl (fun _ => nI 0))), (q3, .inl (d3, 18, .inl (fun _ => nI 0))), (q4, .inl (d4, 10, .inl (fun _ => nI 0))), (q5, .inl (d5, 10, .inl (fun _ => nI 0))), (q7, .inl (d7, 32, .inl (fun _ => nI 0))), (q8, .inl (d8, 32, .inl (fun _ => nI 0))), (q11, .inl (d11, 4, .inl (fun _ => nI 0))), (q12, .inl (d12, 12, .inl (fun _ => nI 0))), (q13, .inl (d13, 12, .inl (fun _ => nI 0))), (q14, .inl (d14, 48, .inl (fun _ => nI 0)))] := hD
  have hK : va_K D tv_cl [(d1, .byte), (d2, .byte), (d3, .byte), (d4, .byte), (d5, .byte), (d7, .byte), (d8, .byte), (d11, .byte), (d12, .byte), (d13, .byte), (d14, .byte)] s := hK
  refine va_putF (D := D) (ci := 0) (v := .ref q14) (ty := .array .byte) (C := RX1) (T := TX1) (N := 20) hx hb hts in_X1 tyX1 tyX1_ok nmX1 hown hK hP hD hS 0 rfl rfl 14 (by decide) (hts _ q46) (fun _ h9 => h9) rfl hin rfl (by decide +kernel) rfl rfl (Nat.le_of_ble_eq_true rfl) dX1_init_87 (fun H locs hP hD hS => ?_)
  have hP : va_P D tv_cl [(h0, .inr (0, [.int 0, .ref q1, .ref q2, .ref q3, .ref q4, .ref q5, .int 0, .ref q7, .ref q8, .int 0, .int 0, .ref q11, .ref q12, .ref q13, .ref q14, .null, .int 0, .int 0, .null, .null])), (q1, .inl (d1, 18, .inl (fun _ => nI 0))), (q2, .inl (d2, 2, .inl (fun _ => nI 0))), (q3, .inl (d3, 18, .inl (fun _ => nI 0))), (q4, .inl (d4, 10, .inl (fun _ => nI 0))), (q5, .inl (d5, 10, .inl (fun _ => nI 0))), (q7, .inl (d7, 32, .inl (fun _ => nI 0))), (q8, .inl (d8, 32, .inl (fun _ => nI 0))), (q11, .inl (d11, 4, .inl (fun _ => nI 0))), (q12, .inl (d12, 12, .inl (fun _ => nI 0))), (q13, .inl (d13, 12, .inl (fun _ => nI 0))), (q14, .inl (d14, 48, .inl (fun _ => nI 0)))] H := hP
  have hD : va_D A [(h0, .inr (0, [.int 0, .ref q1, .ref q2, .ref q3, .ref q4, .ref q5, .int 0, .ref q7, .ref q8, .int 0, .int 0, .ref q11, .ref q12, .ref q13, .ref q14, .null, .int 0, .int 0, .null, .null])), (q1, .inl (d1, 18, .inl (fun _ => nI 0))), (q2, .inl (d2, 2, .inl (fun _ => nI 0))), (q3, .inl (d3, 18, .inl (fun _ => nI 0))), (q4, .inl (d4, 10, .inl (fun _ => nI 0))), (q5, .inl (d5, 10, .inl (fun _ => nI 0))), (q7, .inl (d7, 32, .inl (fun _ => nI 0))), (q8, .inl (d8, 32, .inl (fun _ => nI 0))), (q11, .inl (d11, 4, .inl (fun _ => nI 0))), (q12, .inl (d12, 12, .inl (fun _ => nI 0))), (q13, .inl (d13, 12, .inl (fun _ => nI 0))), (q14, .inl (d14, 48, .inl (fun _ => nI 0)))] := hD
  refine lv_aload_n hx hb dX1_init_90 rfl (lv_at hl 0 rfl) ?_
  refine lv_bipush (v := nI 12) hx hb dX1_init_91 rfl ?_
  refine va_newa (atype := .byte) (ty := .byte) (N' := 12) (a0 := (12, .inl (fun _ => nI 1 - 1))) hx hb (hts _ q93) rfl hK hP hD hS hA (tv_haB 12 (nI 1 - 1) (by decide)) (nI_pos (by decide)) (nI_clamp (by decide)) (by decide) (Nat.le_of_ble_eq_true rfl) (Nat.le_of_ble_eq_true rfl) dX1_init_93 (fun q15 d15 H hK hP hD hS => ?_)
  have hP : va_P D tv_cl [(h0, .inr (0, [.int 0, .ref q1, .ref q2, .ref q3, .ref q4, .ref q5, .int 0, .ref q7, .ref q8, .int 0, .int 0, .ref q11, .ref q12, .ref q13, .ref q14, .null, .int 0, .int 0, .null, .null])), (q1, .inl (d1, 18, .inl (fun _ => nI 0))), (q2, .inl (d2, 2, .inl (fun _ => nI 0))), (q3, .inl (d3, 18, .inl (fun _ => nI 0))), (q4, .inl (d4, 10, .inl (fun _ => nI 0))), (q5, .inl (d5, 10, .inl (fun _ => nI 0))), (q7, .inl (d7, 32, .inl (fun _ => nI 0))), (q8, .inl (d8, 32, .inl (fun _ => nI 0))), (q11, .inl (d11, 4, .inl (fun _ => nI 0))), (q12, .inl (d12, 12, .inl (fun _ => nI 0))), (q13, .inl (d13, 12, .inl (fun _ => nI 0))), (q14, .inl (d14, 48, .inl (fun _ => nI 0))), (q15, .inl (d15, 12, .inl (fun _ => nI 1 - 1)))] H := hP
  have hD : va_D A [(h0, .inr (0, [.int 0, .ref q1, .ref q2, .ref q3, .ref q4, .ref q5, .int 0, .ref q7, .ref q8, .int 0, .int 0, .ref q11, .ref q12, .ref q13, .ref q14, .null, .int 0, .int 0, .null, .null])), (q1, .inl (d1, 18, .inl (fun _ => nI 0))), (q2, .inl (d2, 2, .inl (fun _ => nI 0))), (q3, .inl (d3, 18, .inl (fun _ => nI 0))), (q4, .inl (d4, 10, .inl (fun _ => nI 0))), (q5, .inl (d5, 10, .inl (fun _ => nI 0))), (q7, .inl (d7, 32, .inl (fun _ => nI 0))), (q8, .inl (d8, 32, .inl (fun _ => nI 0))), (q11, .inl (d11, 4, .inl (fun _ => nI 0))), (q12, .inl (d12, 12, .inl (fun _ => nI 0))), (q13, .inl (d13, 12, .inl (fun _ => nI 0))), (q14, .inl (d14, 48, .inl (fun _ => nI 0))), (q15, .inl (d15, 12, .inl (fun _ => nI 1 - 1)))] := hD
  have hK : va_K D tv_cl [(d1, .byte), (d2, .byte), (d3, .byte), (d4, .byte), (d5, .byte), (d7, .byte), (d8, .byte), (d11, .byte), (d12, .byte), (d13, .byte), (d14, .byte), (d15, .byte)] s := hK
  refine va_putF (D := D) (ci := 0) (v := .ref q15) (ty := .array .byte) (C := RX1) (T := TX1) (N := 20) hx hb hts in_X1 tyX1 tyX1_ok nmX1 hown hK hP hD hS 0 rfl rfl 15 (by decide) (hts _ q47) (fun _ h9 => h9) rfl hin rfl (by decide +kernel) rfl rfl (Nat.le_of_ble_eq_true rfl) dX1_init_95 (fun H locs hP hD hS => ?_)
  have hP : va_P D tv_cl [(h0, .inr (0, [.int 0, .ref q1, .ref q2, .ref q3, .ref q4, .ref q5, .int 0, .ref q7, .ref q8, .int 0, .int 0, .ref q11, .ref q12, .ref q13, .ref q14, .ref q15, .int 0, .int 0, .null, .null])), (q1, .inl (d1, 18, .inl (fun _ => nI 0))), (q2, .inl (d2, 2, .inl (fun _ => nI 0))), (q3, .inl (d3, 18, .inl (fun _ => nI 0))), (q4, .inl (d4, 10, .inl (fun _ => nI 0))), (q5, .inl (d5, 10, .inl (fun _ => nI 0))), (q7, .inl (d7, 32, .inl (fun _ => nI 0))), (q8, .inl (d8, 32, .inl (fun _ => nI 0))), (q11, .inl (d11, 4, .inl (fun _ => nI 0))), (q12, .inl (d12, 12, .inl (fun _ => nI 0))), (q13, .inl (d13, 12, .inl (fun _ => nI 0))), (q14, .inl (d14, 48, .inl (fun _ => nI 0))), (q15, .inl (d15, 12, .inl (fun _ => nI 1 - 1)))] H := hP
  have hD : va_D A [(h0, .inr (0, [.int 0, .ref q1, .ref q2, .ref q3, .ref q4, .ref q5, .int 0, .ref q7, .ref q8, .int 0, .int 0, .ref q11, .ref q12, .ref q13, .ref q14, .ref q15, .int 0, .int 0, .null, .null])), (q1, .inl (d1, 18, .inl (fun _ => nI 0))), (q2, .inl (d2, 2, .inl (fun _ => nI 0))), (q3, .inl (d3, 18, .inl (fun _ => nI 0))), (q4, .inl (d4, 10, .inl (fun _ => nI 0))), (q5, .inl (d5, 10, .inl (fun _ => nI 0))), (q7, .inl (d7, 32, .inl (fun _ => nI 0))), (q8, .inl (d8, 32, .inl (fun _ => nI 0))), (q11, .inl (d11, 4, .inl (fun _ => nI 0))), (q12, .inl (d12, 12, .inl (fun _ => nI 0))), (q13, .inl (d13, 12, .inl (fun _ => nI 0))), (q14, .inl (d14, 48, .inl (fun _ => nI 0))), (q15, .inl (d15, 12, .inl (fun _ => nI 1 - 1)))] := hD
  refine lv_aload_n hx hb dX1_init_98 rfl (lv_at hl 0 rfl) ?_
  refine lv_iconst (v := nI 4) hx hb dX1_init_99 rfl ?_
  refine va_newa (atype := .byte) (ty := .byte) (N' := 4) (a0 := (4, .inl (fun _ => nI 0))) hx hb (hts _ q93) rfl hK hP hD hS hA (tv_haB 4 (nI 0) (by decide)) (nI_pos (by decide)) (nI_clamp (by decide)) (by decide) (Nat.le_of_ble_eq_true rfl) (Nat.le_of_ble_eq_true rfl) dX1_init_100 (fun q18 d18 H hK hP hD hS => ?_)
  have hP : va_P D tv_cl [(h0, .inr (0, [.int 0, .ref q1, .ref q2, .ref q3, .ref q4, .ref q5, .int 0, .ref q7, .ref q8, .int 0, .int 0, .ref q11, .ref q12, .ref q13, .ref q14, .ref q15, .int 0, .int 0, .null, .null])), (q1, .inl (d1, 18, .inl (fun _ => nI 0))), (q2, .inl (d2, 2, .inl (fun _ => nI 0))), (q3, .inl (d3, 18, .inl (fun _ => nI 0))), (q4, .inl (d4, 10, .inl (fun _ => nI 0))), (q5, .inl (d5, 10, .inl (fun _ => nI 0))), (q7, .inl (d7, 32, .inl (fun _ => nI 0))), (q8, .inl (d8, 32, .inl (fun _ => nI 0))), (q11, .inl (d11, 4, .inl (fun _ => nI 0))), (q12, .inl (d12, 12, .inl (fun _ => nI 0))), (q13, .inl (d13, 12, .inl (fun _ => nI 0))), (q14, .inl (d14, 48, .inl (fun _ => nI 0))), (q15, .inl (d15, 12, .inl (fun _ => nI 1 - 1))), (q18, .inl (d18, 4, .inl (fun _ => nI 0)))] H := hP
  have hD : va_D A [(h0, .inr (0, [.int 0, .ref q1, .ref q2, .ref q3, .ref q4, .ref q5, .int 0, .ref q7, .ref q8, .int 0, .int 0, .ref q11, .ref q12, .ref q13, .ref q14, .ref q15, .int 0, .int 0, .null, .null])), (q1, .inl (d1, 18, .inl (fun _ => nI 0))), (q2, .inl (d2, 2, .inl (fun _ => nI 0))), (q3, .inl (d3, 18, .inl (fun _ => nI 0))), (q4, .inl (d4, 10, .inl (fun _ => nI 0))), (q5, .inl (d5, 10, .inl (fun _ => nI 0))), (q7, .inl (d7, 32, .inl (fun _ => nI 0))), (q8, .inl (d8, 32, .inl (fun _ => nI 0))), (q11, .inl (d11, 4, .inl (fun _ => nI 0))), (q12, .inl (d12, 12, .inl (fun _ => nI 0))), (q13, .inl (d13, 12, .inl (fun _ => nI 0))), (q14, .inl (d14, 48, .inl (fun _ => nI 0))), (q15, .inl (d15, 12, .inl (fun _ => nI 1 - 1))), (q18, .inl (d18, 4, .inl (fun _ => nI 0)))] := hD
  have hK : va_K D tv_cl [(d1, .byte), (d2, .byte), (d3, .byte), (d4, .byte), (d5, .byte), (d7, .byte), (d8, .byte), (d11, .byte), (d12, .byte), (d13, .byte), (d14, .byte), (d15, .byte), (d18, .byte)] s := hK
  refine va_putF (D := D) (ci := 0) (v := .ref q18) (ty := .array .byte) (C := RX1) (T := TX1) (N := 20) hx hb hts in_X1 tyX1 tyX1_ok nmX1 hown hK hP hD hS 0 rfl rfl 18 (by decide) (hts _ q50) (fun _ h9 => h9) rfl hin rfl (by decide +kernel) rfl rfl (Nat.le_of_ble_eq_true rfl) dX1_init_102 (fun H locs hP hD hS => ?_)
  have hP : va_P D tv_cl [(h0, .inr (0, [.int 0, .ref q1, .ref q2, .ref q3, .ref q4, .ref q5, .int 0, .ref q7, .ref q8, .int 0, .int 0, .ref q11, .ref q12, .ref q13, .ref q14, .ref q15, .int 0, .int 0, .ref q18, .null])), (q1, .inl (d1, 18, .inl (fun _ => nI 0))), (q2, .inl (d2, 2, .inl (fun _ => nI 0))), (q3, .inl (d3, 18, .inl (fun _ => nI 0))), (q4, .inl (d4, 10, .inl (fun _ => nI 0))), (q5, .inl (d5, 10, .inl (fun _ => nI 0))), (q7, .inl (d7, 32, .inl (fun _ => nI 0))), (q8, .inl (d8, 32, .inl (fun _ => nI 0))), (q11, .inl (d11, 4, .inl (fun _ => nI 0))), (q12, .inl (d12, 12, .inl (fun _ => nI 0))), (q13, .inl (d13, 12, .inl (fun _ => nI 0))), (q14, .inl (d14, 48, .inl (fun _ => nI 0))), (q15, .inl (d15, 12, .inl (fun _ => nI 1 - 1))), (q18, .inl (d18, 4, .inl (fun _ => nI 0)))] H := hP
  have hD : va_D A [(h0, .inr (0, [.int 0, .ref q1, .ref q2, .ref q3, .ref q4, .ref q5, .int 0, .ref q7, .ref q8, .int 0, .int 0, .ref q11, .ref q12, .ref q13, .ref q14, .ref q15, .int 0, .int 0, .ref q18, .null])), (q1, .inl (d1, 18, .inl (fun _ => nI 0))), (q2, .inl (d2, 2, .inl (fun _ => nI 0))), (q3, .inl (d3, 18, .inl (fun _ => nI 0))), (q4, .inl (d4, 10, .inl (fun _ => nI 0))), (q5, .inl (d5, 10, .inl (fun _ => nI 0))), (q7, .inl (d7, 32, .inl (fun _ => nI 0))), (q8, .inl (d8, 32, .inl (fun _ => nI 0))), (q11, .inl (d11, 4, .inl (fun _ => nI 0))), (q12, .inl (d12, 12, .inl (fun _ => nI 0))), (q13, .inl (d13, 12, .inl (fun _ => nI 0))), (q14, .inl (d14, 48, .inl (fun _ => nI 0))), (q15, .inl (d15, 12, .inl (fun _ => nI 1 - 1))), (q18, .inl (d18, 4, .inl (fun _ => nI 0)))] := hD
  refine lv_aload_n hx hb dX1_init_105 rfl (lv_at hl 0 rfl) ?_
  refine lv_bipush (v := nI 18) hx hb dX1_init_106 rfl ?_
  refine va_newa (atype := .byte) (ty := .byte) (N' := 18) (a0 := (18, .inl (fun _ => nI 0))) hx hb (hts _ q93) rfl hK hP hD hS hA (tv_haB 18 (nI 0) (by decide)) (nI_pos (by decide)) (nI_clamp (by decide)) (by decide) (Nat.le_of_ble_eq_true rfl) (Nat.le_of_ble_eq_true rfl) dX1_init_108 (fun q19 d19 H hK hP hD hS => ?_)
  have hP : va_P D tv_cl [(h0, .inr (0, [.int 0, .ref q1, .ref q2, .ref q3, .ref q4, .ref q5, .int 0, .ref q7, .ref q8, .int 0, .int 0, .ref q11, .ref q12, .ref q13, .ref q14, .ref q15, .int 0, .int 0, .ref q18, .null])), (q1, .inl (d1, 18, .inl (fun _ => nI 0))), (q2, .inl (d2, 2, .inl (fun _ => nI 0))), (q3, .inl (d3, 18, .inl (fun _ => nI 0))), (q4, .inl (d4, 10, .inl (fun _ => nI 0))), (q5, .inl (d5, 10, .inl (fun _ => nI 0))), (q7, .inl (d7, 32, .inl (fun _ => nI 0))), (q8, .inl (d8, 32, .inl (fun _ => nI 0))), (q11, .inl (d11, 4, .inl (fun _ => nI 0))), (q12, .inl (d12, 12, .inl (fun _ => nI 0))), (q13, .inl (d13, 12, .inl (fun _ => nI 0))), (q14, .inl (d14, 48, .inl (fun _ => nI 0))), (q15, .inl (d15, 12, .inl (fun _ => nI 1 - 1))), (q18, .inl (d18, 4, .inl (fun _ => nI 0))), (q19, .inl (d19, 18, .inl (fun _ => nI 0)))] H := hP
  have hD : va_D A [(h0, .inr (0, [.int 0, .ref q1, .ref q2, .ref q3, .ref q4, .ref q5, .int 0, .ref q7, .ref q8, .int 0, .int 0, .ref q11, .ref q12, .ref q13, .ref q14, .ref q15, .int 0, .int 0, .ref q18, .null])), (q1, .inl (d1, 18, .inl (fun _ => nI 0))), (q2, .inl (d2, 2, .inl (fun _ => nI 0))), (q3, .inl (d3, 18, .inl (fun _ => nI 0))), (q4, .inl (d4, 10, .inl (fun _ => nI 0))), (q5, .inl (d5, 10, .inl (fun _ => nI 0))), (q7, .inl (d7, 32, .inl (fun _ => nI 0))), (q8, .inl (d8, 32, .inl (fun _ => nI 0))), (q11, .inl (d11, 4, .inl (fun _ => nI 0))), (q12, .inl (d12, 12, .inl (fun _ => nI 0))), (q13, .inl (d13, 12, .inl (fun _ => nI 0))), (q14, .inl (d14, 48, .inl (fun _ => nI 0))), (q15, .inl (d15, 12, .inl (fun _ => nI 1 - 1))), (q18, .inl (d18, 4, .inl (fun _ => nI 0))), (q19, .inl (d19, 18, .inl (fun _ => nI 0)))] := hD
  have hK : va_K D tv_cl [(d1, .byte), (d2, .byte), (d3, .byte), (d4, .byte), (d5, .byte), (d7, .byte), (d8, .byte), (d11, .byte), (d12, .byte), (d13, .byte), (d14, .byte), (d15, .byte), (d18, .byte), (d19, .byte)] s := hK
  refine va_putF (D := D) (ci := 0) (v := .ref q19) (ty := .array .byte) (C := RX1) (T := TX1) (N := 20) hx hb hts in_X1 tyX1 tyX1_ok nmX1 hown hK hP hD hS 0 rfl rfl 19 (by decide) (hts _ q51) (fun _ h9 => h9) rfl hin rfl (by decide +kernel) rfl rfl (Nat.le_of_ble_eq_true rfl) dX1_init_110 (fun H locs hP hD hS => ?_)
  have hP : va_P D tv_cl [(h0, .inr (0, [.int 0, .ref q1, .ref q2, .ref q3, .ref q4, .ref q5, .int 0, .ref q7, .ref q8, .int 0, .int 0, .ref q11, .ref q12, .ref q13, .ref q14, .ref q15, .int 0, .int 0, .ref q18, .ref q19])), (q1, .inl (d1, 18, .inl (fun _ => nI 0))), (q2, .inl (d2, 2, .inl (fun _ => nI 0))), (q3, .inl (d3, 18, .inl (fun _ => nI 0))), (q4, .inl (d4, 10, .inl (fun _ => nI 0))), (q5, .inl (d5, 10, .inl (fun _ => nI 0))), (q7, .inl (d7, 32, .inl (fun _ => nI 0))), (q8, .inl (d8, 32, .inl (fun _ => nI 0))), (q11, .inl (d11, 4, .inl (fun _ => nI 0))), (q12, .inl (d12, 12, .inl (fun _ => nI 0))), (q13, .inl (d13, 12, .inl (fun _ => nI 0))), (q14, .inl (d14, 48, .inl (fun _ => nI 0))), (q15, .inl (d15, 12, .inl (fun _ => nI 1 - 1))), (q18, .inl (d18, 4, .inl (fun _ => nI 0))), (q19, .inl (d19, 18, .inl (fun _ => nI 0)))] H := hP
  have hD : va_D A [(h0, .inr (0, [.int 0, .ref q1, .ref q2, .ref q3, .ref q4, .ref q5, .int 0, .ref q7, .ref q8, .int 0, .int 0, .ref q11, .ref q12, .ref q13, .ref q14, .ref q15, .int 0, .int 0, .ref q18, .ref q19])), (q1, .inl (d1, 18, .inl (fun _ => nI 0))), (q2, .inl (d2, 2, .inl (fun _ => nI 0))), (q3, .inl (d3, 18, .inl (fun _ => nI 0))), (q4, .inl (d4, 10, .inl (fun _ => nI 0))), (q5, .inl (d5, 10, .inl (fun _ => nI 0))), (q7, .inl (d7, 32, .inl (fun _ => nI 0))), (q8, .inl (d8, 32, .inl (fun _ => nI 0))), (q11, .inl (d11, 4, .inl (fun _ => nI 0))), (q12, .inl (d12, 12, .inl (fun _ => nI 0))), (q13, .inl (d13, 12, .inl (fun _ => nI 0))), (q14, .inl (d14, 48, .inl (fun _ => nI 0))), (q15, .inl (d15, 12, .inl (fun _ => nI 1 - 1))), (q18, .inl (d18, 4, .inl (fun _ => nI 0))), (q19, .inl (d19, 18, .inl (fun _ => nI 0)))] := hD
  refine W.widen (k := 14) (n := 232) (Nat.le_of_ble_eq_true rfl) (Nat.le_of_ble_eq_true rfl) ?_
  have fin : ∀ v : Nat, tv_cl3 x v → W p l e (headSpec (ws_ yX1_init cX1_init 2 none) ({ frames := 1, cells := 14, slots := 232, locals := 12 } : Room)).room s m ([.ref h0, .int x] : List Value).toArray below meth c H locs 14 232 (MQ below (va_Qv (fun u : ((Nat → Nat) × (Nat → ClassId) × Nat) => u.1 0 = h0 ∧ tv_cl3 x u.2.2) (fun u t => va_P D tv_cl (tv_wX u.1 u.2.1 (tv_s0 u.2.2)) t.heap ∧ va_K D tv_cl (tv_tX u.2.1) t ∧ va_D A (tv_wX u.1 u.2.1 (tv_s0 u.2.2))) A) ([.ref h0, .int x] : List Value).toArray s 14 232 A) (F0 m 132 ls [.int (nI v), .ref h0]) := by
    intro v hv
    refine va_put (D := D) (ci := 0) (v := .int (nI v)) (ty := .int) (C := RX1) (T := TX1) (N := 20) hx hb hts in_X1 tyX1 tyX1_ok nmX1 hown hK hP hD hS 0 rfl rfl 0 (by decide) (hts _ q32) (fun _ h9 => h9) rfl (by decide +kernel) rfl rfl (Nat.le_of_ble_eq_true rfl) dX1_init_132 (fun H locs hP hD hS => ?_)
    have hP : va_P D tv_cl [(h0, .inr (0, [.int (nI v), .ref q1, .ref q2, .ref q3, .ref q4, .ref q5, .int 0, .ref q7, .ref q8, .int 0, .int 0, .ref q11, .ref q12, .ref q13, .ref q14, .ref q15, .int 0, .int 0, .ref q18, .ref q19])), (q1, .inl (d1, 18, .inl (fun _ => nI 0))), (q2, .inl (d2, 2, .inl (fun _ => nI 0))), (q3, .inl (d3, 18, .inl (fun _ => nI 0))), (q4, .inl (d4, 10, .inl (fun _ => nI 0))), (q5, .inl (d5, 10, .inl (fun _ => nI 0))), (q7, .inl (d7, 32, .inl (fun _ => nI 0))), (q8, .inl (d8, 32, .inl (fun _ => nI 0))), (q11, .inl (d11, 4, .inl (fun _ => nI 0))), (q12, .inl (d12, 12, .inl (fun _ => nI 0))), (q13, .inl (d13, 12, .inl (fun _ => nI 0))), (q14, .inl (d14, 48, .inl (fun _ => nI 0))), (q15, .inl (d15, 12, .inl (fun _ => nI 1 - 1))), (q18, .inl (d18, 4, .inl (fun _ => nI 0))), (q19, .inl (d19, 18, .inl (fun _ => nI 0)))] H := hP
    have hD : va_D A [(h0, .inr (0, [.int (nI v), .ref q1, .ref q2, .ref q3, .ref q4, .ref q5, .int 0, .ref q7, .ref q8, .int 0, .int 0, .ref q11, .ref q12, .ref q13, .ref q14, .ref q15, .int 0, .int 0, .ref q18, .ref q19])), (q1, .inl (d1, 18, .inl (fun _ => nI 0))), (q2, .inl (d2, 2, .inl (fun _ => nI 0))), (q3, .inl (d3, 18, .inl (fun _ => nI 0))), (q4, .inl (d4, 10, .inl (fun _ => nI 0))), (q5, .inl (d5, 10, .inl (fun _ => nI 0))), (q7, .inl (d7, 32, .inl (fun _ => nI 0))), (q8, .inl (d8, 32, .inl (fun _ => nI 0))), (q11, .inl (d11, 4, .inl (fun _ => nI 0))), (q12, .inl (d12, 12, .inl (fun _ => nI 0))), (q13, .inl (d13, 12, .inl (fun _ => nI 0))), (q14, .inl (d14, 48, .inl (fun _ => nI 0))), (q15, .inl (d15, 12, .inl (fun _ => nI 1 - 1))), (q18, .inl (d18, 4, .inl (fun _ => nI 0))), (q19, .inl (d19, 18, .inl (fun _ => nI 0)))] := hD
    refine W.vret hx hb hr (fun t ht hW => ⟨⟨(fun k => if k = 1 then q1 else if k = 2 then q2 else if k = 3 then q3 else if k = 4 then q4 else if k = 5 then q5 else if k = 7 then q7 else if k = 8 then q8 else if k = 11 then q11 else if k = 12 then q12 else if k = 13 then q13 else if k = 14 then q14 else if k = 15 then q15 else if k = 18 then q18 else if k = 19 then q19 else h0, fun k => if k = 1 then d1 else if k = 2 then d2 else if k = 3 then d3 else if k = 4 then d4 else if k = 5 then d5 else if k = 7 then d7 else if k = 8 then d8 else if k = 11 then d11 else if k = 12 then d12 else if k = 13 then d13 else if k = 14 then d14 else if k = 15 then d15 else if k = 18 then d18 else if k = 19 then d19 else d1, v), rfl, ⟨rfl, hv⟩, ?_, va_K.moved hW.alike hK, ?_⟩, hS.F ht⟩) hS.2.2 dX1_init_135
    · rw [ht]; exact hP
    · exact hD
  refine lv_aload_n hx hb dX1_init_113 rfl (lv_at hl 0 rfl) ?_
  refine lv_iload_n hx hb dX1_init_114 rfl (lv_at hl 1 rfl) ?_
  refine lv_if_ge (tgt := 122) hx hb dX1_init_115 (by decide) (fun c1 => ?_) (fun c1 => ?_)
  · refine lv_iload_n hx hb dX1_init_122 rfl (lv_at hl 1 rfl) ?_
    refine lv_iconst (v := nI 2) hx hb dX1_init_123 rfl ?_
    refine lv_icmp_le (tgt := 131) hx hb dX1_init_124 (by decide) (fun c2 => ?_) (fun c2 => ?_)
    · obtain ⟨v, hv, e1⟩ := nI_of2 (x := x) (M := 2) (n := 2) rfl (Int32.not_lt.mpr c1) (by rw [← tv_n2]; exact c2)
      refine lv_iload_n hx hb dX1_init_131 rfl (lv_at hl 1 rfl) ?_
      have hf := fin v (Or.inr (Or.inr ⟨e1, hv⟩))
      rw [← e1] at hf
      exact hf
    · refine lv_iconst (v := nI 2) hx hb dX1_init_127 rfl ?_
      refine lv_goto (tgt := 132) hx hb dX1_init_128 (by decide) ?_
      exact fin 2 (Or.inr (Or.inl ⟨by rw [← tv_n2]; exact Int32.not_le.mp c2, rfl⟩))
  · refine lv_iconst (v := nI 0) hx hb dX1_init_118 rfl ?_
    refine lv_goto (tgt := 132) hx hb dX1_init_119 (by decide) ?_
    exact fin 0 (Or.inl ⟨Int32.not_le.mp c1, rfl⟩)
set_option maxHeartbeats 4000000 in
theorem tv_iM (l : Launch) (D : va_G) (h0 sz : Nat) (x : Int32) : Met l yX2_init (ws_ yX2_init cX2_init 2 none) ({ frames := 1, cells := 3, slots := 30, locals := 12 } : Room) (va_Pc [.ref h0, .int x] (fun U => U.heap.size = sz ∧ va_P D tv_cl [(h0, .inr (1, [.int 0, .null, .null, .null]))] U.heap ∧ va_K D tv_cl [] U ∧ va_D (fun _ => True) [(h0, .inr (1, [.int 0, .null, .null, .null]))])) (va_Qv (fun u : ((Nat → Nat) × (Nat → ClassId) × Nat) => u.1 20 = h0 ∧ tv_cl3 x u.2.2) (fun u t => va_P D tv_cl (tv_wM u.1 u.2.1 (tv_s0 u.2.2)) t.heap ∧ va_K D tv_cl (tv_tM u.2.1) t ∧ va_D (va_A [(h0, .inr (1, [.int 0, .null, .null, .null]))] sz) (tv_wM u.1 u.2.1 (tv_s0 u.2.2))) (va_A [(h0, .inr (1, [.int 0, .null, .null, .null]))] sz)) 3 30 (va_A [(h0, .inr (1, [.int 0, .null, .null, .null]))] sz) := by
  refine Met.ofW (cc := cX2_init) (maxL := 2) (ret := none) (by decide) rfl ?_
  intro p e s m args below meth c s₁ B hml hv
  obtain ⟨rfl, hsz, hP, hK, hD0⟩ := hv
  have hx := B.exec
  have hb := B.bytes
  have hr := B.returns
  have hts := atoms_spec (ws := ws_ yX2_init cX2_init 2 none) B.pre
  have hts : ∀ w ∈ lw_all, w.before _ s = true := fun w h => hts w (List.mem_cons_of_mem _ h)
  have hown : s.vm.findClass RX2 = some m.cls := findClass_of_methodNamed B.named
  have hlocks := B.notSynchronized
  have hin : meth.name = "<init>" := (name_of_methodNamed B.named B.method).1
  subst hsz
  have hD := hD0.self (sz := s.heap.size)
  generalize hAe : va_A [(h0, .inr (1, [.int 0, .null, .null, .null]))] s.heap.size = A at hD ⊢
  have hA : ∀ q : Nat, s.heap.size ≤ q → A q := fun q h => by rw [← hAe]; exact Or.inr h
  have hS : va_S A s.heap s.heap [] := va_S.rf
  have hl := lv_entry ([.ref h0, .int x]) (n := 2) (Nat.le_of_ble_eq_true rfl)
  rw [lg_entry_eq]
  generalize (lg_sl ([.ref h0, .int x]) ++ List.replicate (2 - (lg_sl ([.ref h0, .int x])).length) Slot.unset).toArray = ls at hl ⊢
  have hl : lv_has ls 2 [(0, .ref h0), (1, .int x)] := hl
  refine lv_aload_n hx hb dX2_init_0 rfl (lv_at hl 0 rfl) ?_
  refine W.objInit hx hb hown (hts _ q240) (hts _ q30) (hts _ q31) rfl (by rw [hml]; exact hl.1) rfl dX2_init_1 (Nat.le_of_ble_eq_true rfl) (Nat.le_of_ble_eq_true rfl) ?_
  refine W.eq (g2 := F0 m 4 ls []) rfl ?_
  refine lv_aload_n hx hb dX2_init_4 rfl (lv_at hl 0 rfl) ?_
  refine lv_iconst (v := nI 2) hx hb dX2_init_5 rfl ?_
  refine va_newa (atype := .int) (ty := .int) (N' := 2) (a0 := (2, .inl (fun _ => nI 0))) hx hb (hts _ q254) rfl hK hP hD hS hA (tv_haI 2 (nI 0) (by decide)) (nI_pos (by decide)) (nI_clamp (by decide)) (by decide) (Nat.le_of_ble_eq_true rfl) (Nat.le_of_ble_eq_true rfl) dX2_init_6 (fun q21 d21 H hK hP hD hS => ?_)
  have hP : va_P D tv_cl [(h0, .inr (1, [.int 0, .null, .null, .null])), (q21, .inl (d21, 2, .inl (fun _ => nI 0)))] H := hP
  have hD : va_D A [(h0, .inr (1, [.int 0, .null, .null, .null])), (q21, .inl (d21, 2, .inl (fun _ => nI 0)))] := hD
  have hK : va_K D tv_cl [(d21, .int)] s := hK
  refine va_put (D := D) (ci := 1) (v := .ref q21) (ty := .array .int) (C := RX2) (T := TX2) (N := 4) hx hb hts in_X2 tyX2 tyX2_ok nmX2 hown hK hP hD hS 0 rfl rfl 1 (by decide) (hts _ q242) (fun _ h9 => h9) rfl (by decide +kernel) rfl rfl (Nat.le_of_ble_eq_true rfl) dX2_init_8 (fun H locs hP hD hS => ?_)
  have hP : va_P D tv_cl [(h0, .inr (1, [.int 0, .ref q21, .null, .null])), (q21, .inl (d21, 2, .inl (fun _ => nI 0)))] H := hP
  have hD : va_D A [(h0, .inr (1, [.int 0, .ref q21, .null, .null])), (q21, .inl (d21, 2, .inl (fun _ => nI 0)))] := hD
  refine lv_aload_n hx hb dX2_init_11 rfl (lv_at hl 0 rfl) ?_
  refine lv_bipush (v := nI 18) hx hb dX2_init_12 rfl ?_
  refine va_newa (atype := .int) (ty := .int) (N' := 18) (a0 := (18, .inl (fun _ => nI 0))) hx hb (hts _ q254) rfl hK hP hD hS hA (tv_haI 18 (nI 0) (by decide)) (nI_pos (by decide)) (nI_clamp (by decide)) (by decide) (Nat.le_of_ble_eq_true rfl) (Nat.le_of_ble_eq_true rfl) dX2_init_14 (fun q22 d22 H hK hP hD hS => ?_)
  have hP : va_P D tv_cl [(h0, .inr (1, [.int 0, .ref q21, .null, .null])), (q21, .inl (d21, 2, .inl (fun _ => nI 0))), (q22, .inl (d22, 18, .inl (fun _ => nI 0)))] H := hP
  have hD : va_D A [(h0, .inr (1, [.int 0, .ref q21, .null, .null])), (q21, .inl (d21, 2, .inl (fun _ => nI 0))), (q22, .inl (d22, 18, .inl (fun _ => nI 0)))] := hD
  have hK : va_K D tv_cl [(d21, .int), (d22, .int)] s := hK
  refine va_put (D := D) (ci := 1) (v := .ref q22) (ty := .array .int) (C := RX2) (T := TX2) (N := 4) hx hb hts in_X2 tyX2 tyX2_ok nmX2 hown hK hP hD hS 0 rfl rfl 2 (by decide) (hts _ q243) (fun _ h9 => h9) rfl (by decide +kernel) rfl rfl (Nat.le_of_ble_eq_true rfl) dX2_init_16 (fun H locs hP hD hS => ?_)
  have hP : va_P D tv_cl [(h0, .inr (1, [.int 0, .ref q21, .ref q22, .null])), (q21, .inl (d21, 2, .inl (fun _ => nI 0))), (q22, .inl (d22, 18, .inl (fun _ => nI 0)))] H := hP
  have hD : va_D A [(h0, .inr (1, [.int 0, .ref q21, .ref q22, .null])), (q21, .inl (d21, 2, .inl (fun _ => nI 0))), (q22, .inl (d22, 18, .inl (fun _ => nI 0)))] := hD
  refine lv_aload_n hx hb dX2_init_19 rfl (lv_at hl 0 rfl) ?_
  refine lv_bipush (v := nI 10) hx hb dX2_init_20 rfl ?_
  refine va_newa (atype := .int) (ty := .int) (N' := 10) (a0 := (10, .inl (fun _ => nI 0))) hx hb (hts _ q254) rfl hK hP hD hS hA (tv_haI 10 (nI 0) (by decide)) (nI_pos (by decide)) (nI_clamp (by decide)) (by decide) (Nat.le_of_ble_eq_true rfl) (Nat.le_of_ble_eq_true rfl) dX2_init_22 (fun q23 d23 H hK hP hD hS => ?_)
  have hP : va_P D tv_cl [(h0, .inr (1, [.int 0, .ref q21, .ref q22, .null])), (q21, .inl (d21, 2, .inl (fun _ => nI 0))), (q22, .inl (d22, 18, .inl (fun _ => nI 0))), (q23, .inl (d23, 10, .inl (fun _ => nI 0)))] H := hP
  have hD : va_D A [(h0, .inr (1, [.int 0, .ref q21, .ref q22, .null])), (q21, .inl (d21, 2, .inl (fun _ => nI 0))), (q22, .inl (d22, 18, .inl (fun _ => nI 0))), (q23, .inl (d23, 10, .inl (fun _ => nI 0)))] := hD
  have hK : va_K D tv_cl [(d21, .int), (d22, .int), (d23, .int)] s := hK
  refine va_put (D := D) (ci := 1) (v := .ref q23) (ty := .array .int) (C := RX2) (T := TX2) (N := 4) hx hb hts in_X2 tyX2 tyX2_ok nmX2 hown hK hP hD hS 0 rfl rfl 3 (by decide) (hts _ q244) (fun _ h9 => h9) rfl (by decide +kernel) rfl rfl (Nat.le_of_ble_eq_true rfl) dX2_init_24 (fun H locs hP hD hS => ?_)
  have hP : va_P D tv_cl [(h0, .inr (1, [.int 0, .ref q21, .ref q22, .ref q23])), (q21, .inl (d21, 2, .inl (fun _ => nI 0))), (q22, .inl (d22, 18, .inl (fun _ => nI 0))), (q23, .inl (d23, 10, .inl (fun _ => nI 0)))] H := hP
  have hD : va_D A [(h0, .inr (1, [.int 0, .ref q21, .ref q22, .ref q23])), (q21, .inl (d21, 2, .inl (fun _ => nI 0))), (q22, .inl (d22, 18, .inl (fun _ => nI 0))), (q23, .inl (d23, 10, .inl (fun _ => nI 0)))] := hD
  refine W.widen (k := 3) (n := 30) (Nat.le_of_ble_eq_true rfl) (Nat.le_of_ble_eq_true rfl) ?_
  have fin : ∀ v : Nat, tv_cl3 x v → W p l e (headSpec (ws_ yX2_init cX2_init 2 none) ({ frames := 1, cells := 3, slots := 30, locals := 12 } : Room)).room s m ([.ref h0, .int x] : List Value).toArray below meth c H locs 3 30 (MQ below (va_Qv (fun u : ((Nat → Nat) × (Nat → ClassId) × Nat) => u.1 20 = h0 ∧ tv_cl3 x u.2.2) (fun u t => va_P D tv_cl (tv_wM u.1 u.2.1 (tv_s0 u.2.2)) t.heap ∧ va_K D tv_cl (tv_tM u.2.1) t ∧ va_D A (tv_wM u.1 u.2.1 (tv_s0 u.2.2))) A) ([.ref h0, .int x] : List Value).toArray s 3 30 A) (F0 m 46 ls [.int (nI v), .ref h0]) := by
    intro v hv
    refine va_put (D := D) (ci := 1) (v := .int (nI v)) (ty := .int) (C := RX2) (T := TX2) (N := 4) hx hb hts in_X2 tyX2 tyX2_ok nmX2 hown hK hP hD hS 0 rfl rfl 0 (by decide) (hts _ q241) (fun _ h9 => h9) rfl (by decide +kernel) rfl rfl (Nat.le_of_ble_eq_true rfl) dX2_init_46 (fun H locs hP hD hS => ?_)
    have hP : va_P D tv_cl [(h0, .inr (1, [.int (nI v), .ref q21, .ref q22, .ref q23])), (q21, .inl (d21, 2, .inl (fun _ => nI 0))), (q22, .inl (d22, 18, .inl (fun _ => nI 0))), (q23, .inl (d23, 10, .inl (fun _ => nI 0)))] H := hP
    have hD : va_D A [(h0, .inr (1, [.int (nI v), .ref q21, .ref q22, .ref q23])), (q21, .inl (d21, 2, .inl (fun _ => nI 0))), (q22, .inl (d22, 18, .inl (fun _ => nI 0))), (q23, .inl (d23, 10, .inl (fun _ => nI 0)))] := hD
    refine W.vret hx hb hr (fun t ht hW => ⟨⟨(fun k => if k = 21 then q21 else if k = 22 then q22 else if k = 23 then q23 else h0, fun k => if k = 21 then d21 else if k = 22 then d22 else if k = 23 then d23 else d21, v), rfl, ⟨rfl, hv⟩, ?_, va_K.moved hW.alike hK, ?_⟩, hS.F ht⟩) hS.2.2 dX2_init_49
    · rw [ht]; exact hP
    · exact hD
  refine lv_aload_n hx hb dX2_init_27 rfl (lv_at hl 0 rfl) ?_
  refine lv_iload_n hx hb dX2_init_28 rfl (lv_at hl 1 rfl) ?_
  refine lv_if_ge (tgt := 36) hx hb dX2_init_29 (by decide) (fun c1 => ?_) (fun c1 => ?_)
  · refine lv_iload_n hx hb dX2_init_36 rfl (lv_at hl 1 rfl) ?_
    refine lv_iconst (v := nI 2) hx hb dX2_init_37 rfl ?_
    refine lv_icmp_le (tgt := 45) hx hb dX2_init_38 (by decide) (fun c2 => ?_) (fun c2 => ?_)
    · obtain ⟨v, hv, e1⟩ := nI_of2 (x := x) (M := 2) (n := 2) rfl (Int32.not_lt.mpr c1) (by rw [← tv_n2]; exact c2)
      refine lv_iload_n hx hb dX2_init_45 rfl (lv_at hl 1 rfl) ?_
      have hf := fin v (Or.inr (Or.inr ⟨e1, hv⟩))
      rw [← e1] at hf
      exact hf
    · refine lv_iconst (v := nI 2) hx hb dX2_init_41 rfl ?_
      refine lv_goto (tgt := 46) hx hb dX2_init_42 (by decide) ?_
      exact fin 2 (Or.inr (Or.inl ⟨by rw [← tv_n2]; exact Int32.not_le.mp c2, rfl⟩))
  · refine lv_iconst (v := nI 0) hx hb dX2_init_32 rfl ?_
    refine lv_goto (tgt := 46) hx hb dX2_init_33 (by decide) ?_
    exact fin 0 (Or.inl ⟨Int32.not_le.mp c1, rfl⟩)
end
section
set_option maxRecDepth 100000
/-! THE CLAIM OUT OF ONE WALK OF THE LAW'S BODY. Your part is whole_start (and what it stands on); all else here is the same for every law, but numbers. -/
def R_law : String := "ThreeValuedLaw"
def lw_P (b : Addr) (xs : List Int32) (args : Array Value) (s : State) : Prop := args = #[.ref b] ∧ s.IntsAt b xs ∧ xs.length ≤ 193 ∧ (Jvm.Cond.and given_1 narrow_1).before args s = true
def lw_Q (_ : Array Value) (s : State) (o : Outcome) (t : State) : Prop := o = .returned (some (.int 1)) ∧ Framed s o t [] 600000 7290000
def lw_Z (below : List Frame) (a : Array Value) (s : State) : State → Prop := fun t => ∃ o, t.status = .running ∧ Ended t below o ∧ lw_Q a s o t
/-- the law's own end, with 1 on the stack, nothing written that was there before, its room as the claim has it -/
theorem lw_ret {p : Program} {l : Launch} {e : Env} {s : State} {m : MethodId} {below : List Frame} {meth : Method} {c : Code} {b : Nat} (hx : p.tables.exec = Jvm.exec) (hb : c.code = code) (hr : meth.sig.returnType = ret) (hlocks : meth.locks = false) {pc : Nat} {H : Heap} {ls : Array Slot} (hdg : decode code pc = .ok (.ireturn, 1)) : W p l e room_1 s m #[Value.ref b] below meth c H [] 600000 7290000 (lw_Z below #[Value.ref b] s) (F0 m pc ls [.int 1]) := by
  intro T hT X
  obtain ⟨fs, hret, hrun, hended, hW, hframe⟩ := X.leave (v := some (.int 1)) (hlocks := hlocks) (fun h => by rw [hr] at h; cases h)
  have hmeth' : T.vm.method? m = some meth := X.method'
  refine ⟨T.setFrames fs, ?_, .returned (some (.int 1)), hrun, hended, rfl, ⟨_, rfl⟩, hW, hframe⟩
  jvm_step X.here [X.here.top, hx, hb, hdg, hmeth', hr, ret, narrow_b1]
  (try refine ⟨rfl, ?_⟩); (try refine ⟨rfl, ?_⟩)
  first | (intro acts; rw [hret _ acts rfl rfl rfl]) | rw [hret _ _ rfl rfl rfl]
  exact Steps.refl _
/-- what holds at the law's entry: the machine, the code, the tables' words (any of lw_tbl by 'hts w (by decide +kernel)'), the script of L ints xs at the cell b, what the Statement gives of the start (any of its parts by flat_of_before) -/
def lw_At (p : Program) (s : State) (m : MethodId) (meth : Method) (c : Code) (b L : Nat) (xs : Nat → Int32) : Prop :=
  p.tables.exec = Jvm.exec ∧ c.code = code ∧ meth.sig.returnType = ret ∧ c.maxLocals = 4 ∧ s.vm.findClass R_law = some m.cls ∧ (∀ w ∈ lw_tbl, w.before #[Value.ref b] s = true) ∧ va_X b L xs s s.heap ∧ b < s.heap.size ∧ meth.locks = false ∧ (Jvm.Cond.and given_1 narrow_1).before #[Value.ref b] s = true
end
section
set_option maxRecDepth 100000
/-! THE LAW's layer: both objects in one memory; the script stands in E -/
def tv_mg (τ σ : tv_M) : tv_M := fun k => if k < 20 then τ k else σ k
def tv_wL (h : Nat → Nat) (d : Nat → ClassId) (σ : tv_M) : va_W := tv_wX h d σ ++ tv_wM h d σ
def tv_tL (d : Nat → ClassId) : List (ClassId × FieldType) := tv_tX d ++ tv_tM d
def tv_EL (b L : Nat) (xs : Nat → Int32) : State → (Nat → Prop) → Prop := fun s A => va_X b L xs s s.heap ∧ b < s.heap.size ∧ ¬ A b
section
variable {l : Launch} {cc : ByteArray} {n : Nat} {own : String} {R : Room} {D : va_G} {tys : List (ClassId × FieldType)} {ω : tv_M → va_W} {G : Nat → List Value → List Value → tv_M → Prop} {pc : Nat} {vs st : List Value} {σ : tv_M} {b L : Nat} {xs : Nat → Int32}
theorem tv_slen (hG : tv_isG l cc n own R D tys ω (tv_EL b L xs) G) (hd : decode cc pc = .ok (.arraylength, 1)) (k : G (pc + 1) vs (.int (nI L) :: st) σ) : G pc vs (.ref b :: st) σ := by
  obtain ⟨p, e, s, m, args, below, meth, c, cells, slots, Q, A, hx, hb, hml, hown, hts, hA, hE, hc1, hc2, rfl⟩ := hG
  intro H locs ls hX hl
  exact va_slen hx hb hE.1 hE.2.1 hE.2.2 hX.2.2.2 hd (k H locs ls hX hl)
theorem tv_sld (hG : tv_isG l cc n own R D tys ω (tv_EL b L xs) G) {i : Nat} (hi : i < L) (hL : L ≤ 193) (hd : decode cc pc = .ok (.iaload, 1)) (k : G (pc + 1) vs (.int (xs i) :: st) σ) : G pc vs (.int (nI i) :: .ref b :: st) σ := by
  obtain ⟨p, e, s, m, args, below, meth, c, cells, slots, Q, A, hx, hb, hml, hown, hts, hA, hE, hc1, hc2, rfl⟩ := hG
  intro H locs ls hX hl
  refine va_sld (i := nI i) hx hb hE.1 hE.2.1 hE.2.2 hX.2.2.2 (vp_in_nI hi (by omega)) hd ?_
  rw [nI_clamp (by omega)]
  exact k H locs ls hX hl
end
section
variable {l : Launch} {cc : ByteArray} {n : Nat} {own : String} {R : Room} {D : va_G} {h : Nat → Nat} {d : Nat → ClassId} {E : State → (Nat → Prop) → Prop} {G : Nat → List Value → List Value → tv_M → Prop} {pc : Nat} {vs st stk As : List Value} {σ : tv_M}
  {y : MethodName} {b1 : ByteArray} {n1 : Nat} {r : Option FieldType} {rm : Room} {idx : Nat}
theorem tv_callLX (hG : tv_isG l cc n own R D (tv_tL d) (tv_wL h d) E G) {post : Int32 → tv_M → Prop} (M : tv_CI l y b1 n1 r rm D (tv_tX d) (tv_wX h d) (.ref (h 0) :: As) σ post) (w1 : Cond.methodLink own idx y ∈ lw_all) (w2 : Cond.instanceMethod y ∈ lw_all) (w3 : Cond.selects RX1 y y ∈ lw_all) (w4 : Cond.initialized RX1 ∈ lw_all) (w5 : Cond.code y b1 n1 r ∈ lw_all) (nA : Nat) (hy : y.cls = RX1 ∧ y.cls ≠ "java/lang/invoke/MethodHandle" ∧ y.cls ≠ "java/lang/invoke/VarHandle" ∧ (parseMethodDescriptor y.desc).map (fun d => d.parameters.length) = some nA) (hrc : rm.cells = 0) (hrs : rm.slots = 0) (hR : rm.frames + 1 ≤ R.frames ∧ 8 + (n1 + 11) + rm.locals ≤ R.locals) (hn : As.length = nA) (hs : stk = As.reverse ++ .ref (h 0) :: st) (hw : (st.map fun v => v.category).sum ≤ 8) (hd : decode cc pc = .ok (.invokevirtual idx, 3)) (k : ∀ (z : Int32) (τ : tv_M), post z τ → G (pc + 3) vs (.int z :: st) (tv_mg τ σ)) : G pc vs stk σ := by
  obtain ⟨p, e, s, m, args, below, meth, c, cells, slots, Q, A, hx, hb, hml, hown, hts, hA, hE, hc1, hc2, rfl⟩ := hG
  intro H locs ls hX hl
  subst hs
  obtain ⟨hK, hP, hD, hS⟩ := hX
  have hPc := hP.sub (ws' := tv_wX h d σ) [0, 1, 2, 3, 4, 5, 6, 7, 8, 9, 10, 11, 12, 13, 14] rfl
  have hDc := hD.sub (ws' := tv_wX h d σ) [0, 1, 2, 3, 4, 5, 6, 7, 8, 9, 10, 11, 12, 13, 14] (by decide) rfl
  have hKc := hK.sub (tys' := tv_tX d) [0, 1, 2, 3, 4, 5, 6, 7, 8, 9, 10, 11, 12, 13] rfl
  have hFc := va_free (wc := tv_wX h d σ) hD hS hA [0, 1, 2, 3, 4, 5, 6, 7, 8, 9, 10, 11, 12, 13, 14] rfl
  refine va_calli (va_runV (As := As) (rest := st) ⟨hx, hb, hml, hown, hts⟩ (M H.size) (cwV nA hts (lw_V w1 w2 w3 w4 w5) rfl hrc hrs hy hR) ⟨(fun a U g mk q => by obtain ⟨q0, q1, qP, qK, qD⟩ := q; exact ⟨q0, q1, qP, va_K.moved (u := U) (U := U.calling g mk a) (Vm.Alike.refl U.vm) qK, qD⟩), va_recv hKc hPc (ci := 0) (q0 := 0) rfl rfl, fun U hU hW => ⟨rfl, by rw [hU], by rw [hU]; exact hPc, va_K.moved hW.alike hKc, hDc.weaken (fun _ _ _ _ => trivial)⟩⟩ rfl hn hl.1 rfl (lv_room hw) hd ⟨hc1, hc2⟩) hS (fun q _ h => hFc q h) hFc (fun z u t H1 locs1 ht hvm hw1 hB hz1 hk1 hS1 => ?_)
  obtain ⟨hP1, hK1, hD1⟩ := hB
  rw [ht] at hP1
  obtain ⟨hP2, hD2⟩ := va_join (wr := tv_wM h d σ) (w1 := tv_wX h d u) hP hD [0, 1, 2, 3, 4, 5, 6, 7, 8, 9, 10, 11, 12, 13, 14] [15, 16, 17, 18] rfl rfl (by decide) (by decide) hk1 hFc hP1 hD1
  exact k z u hw1 H1 locs1 ls ⟨hK, hP2.sub (ws' := tv_wL h d (tv_mg u σ)) [4, 5, 6, 7, 8, 9, 10, 11, 12, 13, 14, 15, 16, 17, 18, 0, 1, 2, 3] rfl, hD2.sub (ws' := tv_wL h d (tv_mg u σ)) [4, 5, 6, 7, 8, 9, 10, 11, 12, 13, 14, 15, 16, 17, 18, 0, 1, 2, 3] (by decide) rfl, hS1⟩ hl
theorem tv_callLM (hG : tv_isG l cc n own R D (tv_tL d) (tv_wL h d) E G) {post : Int32 → tv_M → Prop} (M : tv_CI l y b1 n1 r rm D (tv_tM d) (tv_wM h d) (.ref (h 20) :: As) σ post) (w1 : Cond.methodLink own idx y ∈ lw_all) (w2 : Cond.instanceMethod y ∈ lw_all) (w3 : Cond.selects RX2 y y ∈ lw_all) (w4 : Cond.initialized RX2 ∈ lw_all) (w5 : Cond.code y b1 n1 r ∈ lw_all) (nA : Nat) (hy : y.cls = RX2 ∧ y.cls ≠ "java/lang/invoke/MethodHandle" ∧ y.cls ≠ "java/lang/invoke/VarHandle" ∧ (parseMethodDescriptor y.desc).map (fun d => d.parameters.length) = some nA) (hrc : rm.cells = 0) (hrs : rm.slots = 0) (hR : rm.frames + 1 ≤ R.frames ∧ 8 + (n1 + 11) + rm.locals ≤ R.locals) (hn : As.length = nA) (hs : stk = As.reverse ++ .ref (h 20) :: st) (hw : (st.map fun v => v.category).sum ≤ 8) (hd : decode cc pc = .ok (.invokevirtual idx, 3)) (k : ∀ (z : Int32) (τ : tv_M), post z τ → G (pc + 3) vs (.int z :: st) (tv_mg σ τ)) : G pc vs stk σ := by
  obtain ⟨p, e, s, m, args, below, meth, c, cells, slots, Q, A, hx, hb, hml, hown, hts, hA, hE, hc1, hc2, rfl⟩ := hG
  intro H locs ls hX hl
  subst hs
  obtain ⟨hK, hP, hD, hS⟩ := hX
  have hPc := hP.sub (ws' := tv_wM h d σ) [15, 16, 17, 18] rfl
  have hDc := hD.sub (ws' := tv_wM h d σ) [15, 16, 17, 18] (by decide) rfl
  have hKc := hK.sub (tys' := tv_tM d) [14, 15, 16] rfl
  have hFc := va_free (wc := tv_wM h d σ) hD hS hA [15, 16, 17, 18] rfl
  refine va_calli (va_runV (As := As) (rest := st) ⟨hx, hb, hml, hown, hts⟩ (M H.size) (cwV nA hts (lw_V w1 w2 w3 w4 w5) rfl hrc hrs hy hR) ⟨(fun a U g mk q => by obtain ⟨q0, q1, qP, qK, qD⟩ := q; exact ⟨q0, q1, qP, va_K.moved (u := U) (U := U.calling g mk a) (Vm.Alike.refl U.vm) qK, qD⟩), va_recv hKc hPc (ci := 1) (q0 := 0) rfl rfl, fun U hU hW => ⟨rfl, by rw [hU], by rw [hU]; exact hPc, va_K.moved hW.alike hKc, hDc.weaken (fun _ _ _ _ => trivial)⟩⟩ rfl hn hl.1 rfl (lv_room hw) hd ⟨hc1, hc2⟩) hS (fun q _ h => hFc q h) hFc (fun z u t H1 locs1 ht hvm hw1 hB hz1 hk1 hS1 => ?_)
  obtain ⟨hP1, hK1, hD1⟩ := hB
  rw [ht] at hP1
  obtain ⟨hP2, hD2⟩ := va_join (wr := tv_wX h d σ) (w1 := tv_wM h d u) hP hD [15, 16, 17, 18] [0, 1, 2, 3, 4, 5, 6, 7, 8, 9, 10, 11, 12, 13, 14] rfl rfl (by decide) (by decide) hk1 hFc hP1 hD1
  exact k z u hw1 H1 locs1 ls ⟨hK, hP2, hD2, hS1⟩ hl
end
end
section
set_option maxRecDepth 100000
/-! THE LAW's cases -/
def tv_inv (σ : tv_M) : Prop := tv_GS (σ 1) (σ 2) (σ 0 0) ∧ tv_isM σ (σ 1) (σ 2) (σ 0 0)
theorem tv_inv_mk {σ τ ρ : tv_M} (h1 : tv_GS (τ 1) (τ 2) (τ 0 0)) (h2 : ρ 22 = τ 1) (h3 : ρ 21 = τ 2) (h4 : ρ 20 0 = τ 0 0) : tv_inv (tv_mg (tv_mg τ σ) ρ) := ⟨h1, h2, h3, h4⟩
theorem tv_inv_M {σ τ : tv_M} (hI : tv_inv σ) : tv_isM (tv_mg τ σ) (σ 1) (σ 2) (σ 0 0) := hI.2
theorem tv_inv_q {σ τ ρ : tv_M} (hI : tv_inv σ) (hk : tv_kp σ τ) (hq : ∀ q, q ≠ 23 → ρ q = tv_mg τ σ q) : tv_inv (tv_mg (tv_mg τ σ) ρ) := by
  refine tv_inv_mk ?_ ?_ ?_ ?_
  · rw [hk.1, hk.2.1, hk.2.2]; exact hI.1
  · rw [hk.2.1]; exact (hq 22 (by decide)).trans hI.2.1
  · rw [hk.2.2]; exact (hq 21 (by decide)).trans hI.2.2.1
  · rw [hk.1]; rw [hq 20 (by decide)]; exact hI.2.2.2
theorem tv_inv_set {σ τ ρ : tv_M} {g z u : Int32} (hI : tv_inv σ) (hp : ((g < 0 ∨ 2 < g) ∧ z = 0 ∧ τ = σ) ∨ (∃ v, v ≤ 2 ∧ g = nI v ∧ z = 1 ∧ τ = tv_st σ 0 0 v)) (hp2 : ((g < 0 ∨ 2 < g) ∧ u = 0 ∧ ρ = tv_mg τ σ) ∨ (∃ v, v ≤ 2 ∧ g = nI v ∧ u = 1 ∧ ρ = tv_st (tv_mg τ σ) 20 0 v)) : z = u ∧ tv_inv (tv_mg (tv_mg τ σ) ρ) := by
  rcases hp with ⟨a1, a2, a3⟩ | ⟨v, a1, a2, a3, a4⟩ <;> rcases hp2 with ⟨b1, b2, b3⟩ | ⟨w, b1, b2, b3, b4⟩
  · refine ⟨a2.trans b2.symm, ?_⟩
    subst b3
    subst a3
    exact tv_inv_mk hI.1 hI.2.1 hI.2.2.1 hI.2.2.2
  · exact absurd b2 (tv_bad_r (M := 2) (m := 2) (by decide) (by decide) a1 b1)
  · exact absurd a2 (tv_bad_r (M := 2) (m := 2) (by decide) (by decide) b1 a1)
  · have e : v = w := tv_inj (by omega) (by omega) (a2.symm.trans b2)
    subst e
    subst b4
    subst a4
    refine ⟨a3.trans b3.symm, tv_inv_mk ?_ ?_ ?_ ?_⟩
    · rw [tv_st_k (by decide), tv_st_k (by decide), tv_st_eq]
      exact ⟨by omega, hI.1.2⟩
    · rw [tv_st_k (by decide), tv_st_k (by decide)]; exact hI.2.1
    · rw [tv_st_k (by decide), tv_st_k (by decide)]; exact hI.2.2.1
    · rw [tv_st_eq, tv_st_eq]
section
variable {l : Launch} {D : va_G} {h : Nat → Nat} {d : Nat → ClassId} {G : Nat → List Value → List Value → tv_M → Prop} {σ : tv_M} {b L i : Nat} {xs : Nat → Int32}
set_option maxHeartbeats 4000000 in
theorem tv_L0 (hG : tv_isG l cL_law 4 RX0 room_1 D (tv_tL d) (tv_wL h d) (tv_EL b L xs) G) (hL : L ≤ 193) (hi : i + 3 ≤ L) (hI : tv_inv σ) (next : ∀ ρ, tv_inv ρ → G 444 [.ref b, .ref (h 0), .ref (h 20), .int (nI i)] [] ρ) : G 112 [.ref b, .ref (h 0), .ref (h 20), .int (nI i)] [] σ := by
  refine tv_aload_n hG dL_law_112 rfl rfl ?_
  refine tv_callLX (As := []) (st := []) hG (tv_cX_logic l D h d σ) q94 q95 q96 q22 q97 0 (by decide +kernel) rfl rfl ⟨Nat.le_of_ble_eq_true rfl, Nat.le_of_ble_eq_true rfl⟩ rfl rfl (Nat.le_of_ble_eq_true rfl) dL_law_113 (fun z τ hp => ?_)
  refine tv_aload_n hG dL_law_116 rfl rfl ?_
  refine tv_callLM (As := []) (st := [.int z]) hG (tv_cM_logic l D h d (tv_mg τ σ)) q255 q256 q257 q23 q258 0 (by decide +kernel) rfl rfl ⟨Nat.le_of_ble_eq_true rfl, Nat.le_of_ble_eq_true rfl⟩ rfl rfl (Nat.le_of_ble_eq_true rfl) dL_law_117 (fun u ρ hp2 => ?_)
  have hz : z = u := by rw [hp.1, hp2.1]; exact congrArg nI hI.2.2.2.symm
  have hn : tv_inv (tv_mg (tv_mg τ σ) ρ) := tv_inv_q hI (by rw [hp.2]; exact ⟨rfl, rfl, rfl⟩) (fun q _ => by rw [hp2.2])
  exact tv_zicmp_eq (tgt := 444) hG dL_law_120 (by decide) (fun _ => next _ hn) (fun q => absurd hz q)
set_option maxHeartbeats 4000000 in
theorem tv_L1 (hG : tv_isG l cL_law 4 RX0 room_1 D (tv_tL d) (tv_wL h d) (tv_EL b L xs) G) (hL : L ≤ 193) (hi : i + 3 ≤ L) (hI : tv_inv σ) (next : ∀ ρ, tv_inv ρ → G 444 [.ref b, .ref (h 0), .ref (h 20), .int (nI i)] [] ρ) : G 125 [.ref b, .ref (h 0), .ref (h 20), .int (nI i)] [] σ := by
  refine tv_aload_n hG dL_law_125 rfl rfl ?_
  refine tv_aload_n hG dL_law_126 rfl rfl ?_
  refine tv_iload_n hG dL_law_127 rfl rfl ?_
  refine tv_iconst (x := nI 1) hG dL_law_128 rfl ?_
  refine tv_iadd hG dL_law_129 ?_
  refine tv_sld hG (by omega) hL dL_law_130 ?_
  refine tv_callLX (As := [.int (xs (i + 1))]) (st := []) hG (tv_cX_setLogic l D h d σ (xs (i + 1))) q98 q99 q100 q22 q101 1 (by decide +kernel) rfl rfl ⟨Nat.le_of_ble_eq_true rfl, Nat.le_of_ble_eq_true rfl⟩ rfl rfl (Nat.le_of_ble_eq_true rfl) dL_law_131 (fun z τ hp => ?_)
  refine tv_aload_n hG dL_law_134 rfl rfl ?_
  refine tv_aload_n hG dL_law_135 rfl rfl ?_
  refine tv_iload_n hG dL_law_136 rfl rfl ?_
  refine tv_iconst (x := nI 1) hG dL_law_137 rfl ?_
  refine tv_iadd hG dL_law_138 ?_
  refine tv_sld hG (by omega) hL dL_law_139 ?_
  refine tv_callLM (As := [.int (xs (i + 1))]) (st := [.int z]) hG (tv_cM_setLogic l D h d (tv_mg τ σ) (xs (i + 1))) q259 q260 q261 q23 q262 1 (by decide +kernel) rfl rfl ⟨Nat.le_of_ble_eq_true rfl, Nat.le_of_ble_eq_true rfl⟩ rfl rfl (Nat.le_of_ble_eq_true rfl) dL_law_140 (fun u ρ hp2 => ?_)
  obtain ⟨hz, hn⟩ := tv_inv_set hI hp hp2
  exact tv_zicmp_eq (tgt := 444) hG dL_law_143 (by decide) (fun _ => next _ hn) (fun q => absurd hz q)
set_option maxHeartbeats 4000000 in
theorem tv_L2 (hG : tv_isG l cL_law 4 RX0 room_1 D (tv_tL d) (tv_wL h d) (tv_EL b L xs) G) (hL : L ≤ 193) (hi : i + 3 ≤ L) (hI : tv_inv σ) (next : ∀ ρ, tv_inv ρ → G 444 [.ref b, .ref (h 0), .ref (h 20), .int (nI i)] [] ρ) : G 148 [.ref b, .ref (h 0), .ref (h 20), .int (nI i)] [] σ := by
  refine tv_aload_n hG dL_law_148 rfl rfl ?_
  refine tv_aload_n hG dL_law_149 rfl rfl ?_
  refine tv_iload_n hG dL_law_150 rfl rfl ?_
  refine tv_iconst (x := nI 1) hG dL_law_151 rfl ?_
  refine tv_iadd hG dL_law_152 ?_
  refine tv_sld hG (by omega) hL dL_law_153 ?_
  refine tv_aload_n hG dL_law_154 rfl rfl ?_
  refine tv_iload_n hG dL_law_155 rfl rfl ?_
  refine tv_iconst (x := nI 2) hG dL_law_156 rfl ?_
  refine tv_iadd hG dL_law_157 ?_
  refine tv_sld hG (by omega) hL dL_law_158 ?_
  refine tv_callLX (As := [.int (xs (i + 1)), .int (xs (i + 2))]) (st := []) hG (tv_cX_feed l D h d σ (xs (i + 1)) (xs (i + 2)) hI.1) q102 q103 q104 q22 q105 2 (by decide +kernel) rfl rfl ⟨Nat.le_of_ble_eq_true rfl, Nat.le_of_ble_eq_true rfl⟩ rfl rfl (Nat.le_of_ble_eq_true rfl) dL_law_159 (fun z τ hp => ?_)
  refine tv_aload_n hG dL_law_162 rfl rfl ?_
  refine tv_aload_n hG dL_law_163 rfl rfl ?_
  refine tv_iload_n hG dL_law_164 rfl rfl ?_
  refine tv_iconst (x := nI 1) hG dL_law_165 rfl ?_
  refine tv_iadd hG dL_law_166 ?_
  refine tv_sld hG (by omega) hL dL_law_167 ?_
  refine tv_aload_n hG dL_law_168 rfl rfl ?_
  refine tv_iload_n hG dL_law_169 rfl rfl ?_
  refine tv_iconst (x := nI 2) hG dL_law_170 rfl ?_
  refine tv_iadd hG dL_law_171 ?_
  refine tv_sld hG (by omega) hL dL_law_172 ?_
  refine tv_callLM (As := [.int (xs (i + 1)), .int (xs (i + 2))]) (st := [.int z]) hG (tv_cM_feed l D h d (tv_mg τ σ) (σ 1) (σ 2) (σ 0 0) (xs (i + 1)) (xs (i + 2)) (tv_inv_M hI) hI.1) q263 q264 q265 q23 q266 2 (by decide +kernel) rfl rfl ⟨Nat.le_of_ble_eq_true rfl, Nat.le_of_ble_eq_true rfl⟩ rfl rfl (Nat.le_of_ble_eq_true rfl) dL_law_173 (fun u ρ hp2 => ?_)
  obtain ⟨hz, e1, e2⟩ := tv_pFeed_uni hp.1 hp2.1
  have hn : tv_inv (tv_mg (tv_mg τ σ) ρ) := tv_inv_mk (by rw [hp.2]; exact tv_pFeed_GS hI.1 hp.1) e1.symm e2.symm (hp2.2.trans hp.2.symm)
  exact tv_zicmp_eq (tgt := 444) hG dL_law_176 (by decide) (fun _ => next _ hn) (fun q => absurd hz q)
set_option maxHeartbeats 4000000 in
theorem tv_L3 (hG : tv_isG l cL_law 4 RX0 room_1 D (tv_tL d) (tv_wL h d) (tv_EL b L xs) G) (hL : L ≤ 193) (hi : i + 3 ≤ L) (hI : tv_inv σ) (next : ∀ ρ, tv_inv ρ → G 444 [.ref b, .ref (h 0), .ref (h 20), .int (nI i)] [] ρ) : G 181 [.ref b, .ref (h 0), .ref (h 20), .int (nI i)] [] σ := by
  refine tv_aload_n hG dL_law_181 rfl rfl ?_
  refine tv_aload_n hG dL_law_182 rfl rfl ?_
  refine tv_iload_n hG dL_law_183 rfl rfl ?_
  refine tv_iconst (x := nI 1) hG dL_law_184 rfl ?_
  refine tv_iadd hG dL_law_185 ?_
  refine tv_sld hG (by omega) hL dL_law_186 ?_
  refine tv_callLX (As := [.int (xs (i + 1))]) (st := []) hG (tv_cX_back l D h d σ (xs (i + 1)) hI.1) q124 q125 q126 q22 q127 1 (by decide +kernel) rfl rfl ⟨Nat.le_of_ble_eq_true rfl, Nat.le_of_ble_eq_true rfl⟩ rfl rfl (Nat.le_of_ble_eq_true rfl) dL_law_187 (fun z τ hp => ?_)
  refine tv_aload_n hG dL_law_190 rfl rfl ?_
  refine tv_aload_n hG dL_law_191 rfl rfl ?_
  refine tv_iload_n hG dL_law_192 rfl rfl ?_
  refine tv_iconst (x := nI 1) hG dL_law_193 rfl ?_
  refine tv_iadd hG dL_law_194 ?_
  refine tv_sld hG (by omega) hL dL_law_195 ?_
  refine tv_callLM (As := [.int (xs (i + 1))]) (st := [.int z]) hG (tv_cM_back l D h d (tv_mg τ σ) (σ 1) (σ 2) (σ 0 0) (xs (i + 1)) (tv_inv_M hI) hI.1) q271 q272 q273 q23 q274 1 (by decide +kernel) rfl rfl ⟨Nat.le_of_ble_eq_true rfl, Nat.le_of_ble_eq_true rfl⟩ rfl rfl (Nat.le_of_ble_eq_true rfl) dL_law_196 (fun u ρ hp2 => ?_)
  obtain ⟨hz, e1, e2⟩ := tv_pBack_uni hp.1 hp2.1
  have hn : tv_inv (tv_mg (tv_mg τ σ) ρ) := tv_inv_mk (by rw [hp.2]; exact tv_pBack_GS hI.1 hp.1) e1.symm e2.symm (hp2.2.trans hp.2.symm)
  exact tv_zicmp_eq (tgt := 444) hG dL_law_199 (by decide) (fun _ => next _ hn) (fun q => absurd hz q)
set_option maxHeartbeats 4000000 in
theorem tv_L4 (hG : tv_isG l cL_law 4 RX0 room_1 D (tv_tL d) (tv_wL h d) (tv_EL b L xs) G) (hL : L ≤ 193) (hi : i + 3 ≤ L) (hI : tv_inv σ) (next : ∀ ρ, tv_inv ρ → G 444 [.ref b, .ref (h 0), .ref (h 20), .int (nI i)] [] ρ) : G 204 [.ref b, .ref (h 0), .ref (h 20), .int (nI i)] [] σ := by
  refine tv_aload_n hG dL_law_204 rfl rfl ?_
  refine tv_aload_n hG dL_law_205 rfl rfl ?_
  refine tv_iload_n hG dL_law_206 rfl rfl ?_
  refine tv_iconst (x := nI 1) hG dL_law_207 rfl ?_
  refine tv_iadd hG dL_law_208 ?_
  refine tv_sld hG (by omega) hL dL_law_209 ?_
  suffices hk : ∀ (z : Int32) (τ : tv_M), tv_pC (σ 1) (σ 2) (xs (i + 1)) z ∧ tv_kp σ τ → G 213 [.ref b, .ref (h 0), .ref (h 20), .int (nI i)] [.int z] (tv_mg τ σ) by
    rcases tv_fcase (xs (i + 1)) with ⟨f, hf, e⟩ | hbadf
    · rw [e] at hk ⊢
      by_cases hcp : tv_CP (σ 1) (σ 2) f
      · refine tv_callLX (As := [.int (nI f)]) (st := []) hG (tv_cX_complete_t l D h d σ f hf hI.1 hcp) q128 q110 q111 q22 q112 1 (by decide +kernel) rfl rfl ⟨Nat.le_of_ble_eq_true rfl, Nat.le_of_ble_eq_true rfl⟩ rfl rfl (Nat.le_of_ble_eq_true rfl) dL_law_210 (fun z τ hp => hk z τ ?_)
        rw [hp.1, hp.2]
        exact ⟨Or.inl ⟨rfl, f, hf, rfl, hcp⟩, tv_kp_rd hf hI.1⟩
      · refine tv_callLX (As := [.int (nI f)]) (st := []) hG (tv_cX_complete_n l D h d σ f hf hI.1 hcp) q128 q110 q111 q22 q112 1 (by decide +kernel) rfl rfl ⟨Nat.le_of_ble_eq_true rfl, Nat.le_of_ble_eq_true rfl⟩ rfl rfl (Nat.le_of_ble_eq_true rfl) dL_law_210 (fun z τ hp => hk z τ ?_)
        rw [hp.1, hp.2]
        refine ⟨Or.inr ⟨rfl, ?_⟩, tv_kp_rd hf hI.1⟩
        rintro ⟨f1, q1, q2, q3⟩
        have e1 : f = f1 := tv_inj (by omega) (by omega) q2
        subst e1
        exact hcp q3
    · refine tv_callLX (As := [.int (xs (i + 1))]) (st := []) hG (tv_cX_complete_f l D h d σ (xs (i + 1)) hbadf) q128 q110 q111 q22 q112 1 (by decide +kernel) rfl rfl ⟨Nat.le_of_ble_eq_true rfl, Nat.le_of_ble_eq_true rfl⟩ rfl rfl (Nat.le_of_ble_eq_true rfl) dL_law_210 (fun z τ hp => hk z τ ?_)
      rw [hp.1, hp.2]
      exact ⟨Or.inr ⟨rfl, fun ⟨f1, q1, q2, q3⟩ => tv_bad_f hbadf q1 q2⟩, rfl, rfl, rfl⟩
  intro z τ hp
  refine tv_aload_n hG dL_law_213 rfl rfl ?_
  refine tv_aload_n hG dL_law_214 rfl rfl ?_
  refine tv_iload_n hG dL_law_215 rfl rfl ?_
  refine tv_iconst (x := nI 1) hG dL_law_216 rfl ?_
  refine tv_iadd hG dL_law_217 ?_
  refine tv_sld hG (by omega) hL dL_law_218 ?_
  refine tv_callLM (As := [.int (xs (i + 1))]) (st := [.int z]) hG (tv_cM_complete l D h d (tv_mg τ σ) (σ 1) (σ 2) (σ 0 0) (xs (i + 1)) (tv_inv_M hI) hI.1) q275 q268 q269 q23 q270 1 (by decide +kernel) rfl rfl ⟨Nat.le_of_ble_eq_true rfl, Nat.le_of_ble_eq_true rfl⟩ rfl rfl (Nat.le_of_ble_eq_true rfl) dL_law_219 (fun u ρ hp2 => ?_)
  have hz : z = u := tv_Bl_uni hp.1 hp2.1
  have hn : tv_inv (tv_mg (tv_mg τ σ) ρ) := tv_inv_q hI hp.2 (fun q _ => by rw [hp2.2])
  exact tv_zicmp_eq (tgt := 444) hG dL_law_222 (by decide) (fun _ => next _ hn) (fun q => absurd hz q)
set_option maxHeartbeats 4000000 in
theorem tv_L5 (hG : tv_isG l cL_law 4 RX0 room_1 D (tv_tL d) (tv_wL h d) (tv_EL b L xs) G) (hL : L ≤ 193) (hi : i + 3 ≤ L) (hI : tv_inv σ) (next : ∀ ρ, tv_inv ρ → G 444 [.ref b, .ref (h 0), .ref (h 20), .int (nI i)] [] ρ) : G 227 [.ref b, .ref (h 0), .ref (h 20), .int (nI i)] [] σ := by
  refine tv_aload_n hG dL_law_227 rfl rfl ?_
  refine tv_aload_n hG dL_law_228 rfl rfl ?_
  refine tv_iload_n hG dL_law_229 rfl rfl ?_
  refine tv_iconst (x := nI 1) hG dL_law_230 rfl ?_
  refine tv_iadd hG dL_law_231 ?_
  refine tv_sld hG (by omega) hL dL_law_232 ?_
  refine tv_aload_n hG dL_law_233 rfl rfl ?_
  refine tv_iload_n hG dL_law_234 rfl rfl ?_
  refine tv_iconst (x := nI 2) hG dL_law_235 rfl ?_
  refine tv_iadd hG dL_law_236 ?_
  refine tv_sld hG (by omega) hL dL_law_237 ?_
  refine tv_callLX (As := [.int (xs (i + 1)), .int (xs (i + 2))]) (st := []) hG (tv_cX_value l D h d σ (xs (i + 1)) (xs (i + 2)) hI.1) q129 q130 q131 q22 q132 2 (by decide +kernel) rfl rfl ⟨Nat.le_of_ble_eq_true rfl, Nat.le_of_ble_eq_true rfl⟩ rfl rfl (Nat.le_of_ble_eq_true rfl) dL_law_238 (fun z τ hp => ?_)
  refine tv_aload_n hG dL_law_241 rfl rfl ?_
  refine tv_aload_n hG dL_law_242 rfl rfl ?_
  refine tv_iload_n hG dL_law_243 rfl rfl ?_
  refine tv_iconst (x := nI 1) hG dL_law_244 rfl ?_
  refine tv_iadd hG dL_law_245 ?_
  refine tv_sld hG (by omega) hL dL_law_246 ?_
  refine tv_aload_n hG dL_law_247 rfl rfl ?_
  refine tv_iload_n hG dL_law_248 rfl rfl ?_
  refine tv_iconst (x := nI 2) hG dL_law_249 rfl ?_
  refine tv_iadd hG dL_law_250 ?_
  refine tv_sld hG (by omega) hL dL_law_251 ?_
  refine tv_callLM (As := [.int (xs (i + 1)), .int (xs (i + 2))]) (st := [.int z]) hG (tv_cM_value l D h d (tv_mg τ σ) (σ 1) (σ 2) (σ 0 0) (xs (i + 1)) (xs (i + 2)) (tv_inv_M hI) hI.1) q276 q277 q278 q23 q279 2 (by decide +kernel) rfl rfl ⟨Nat.le_of_ble_eq_true rfl, Nat.le_of_ble_eq_true rfl⟩ rfl rfl (Nat.le_of_ble_eq_true rfl) dL_law_252 (fun u ρ hp2 => ?_)
  have hz : z = u := tv_pVal_uni hp.1 hp2.1
  have hn : tv_inv (tv_mg (tv_mg τ σ) ρ) := tv_inv_q hI hp.2 hp2.2
  exact tv_zicmp_eq (tgt := 444) hG dL_law_255 (by decide) (fun _ => next _ hn) (fun q => absurd hz q)
set_option maxHeartbeats 4000000 in
theorem tv_L6 (hG : tv_isG l cL_law 4 RX0 room_1 D (tv_tL d) (tv_wL h d) (tv_EL b L xs) G) (hL : L ≤ 193) (hi : i + 3 ≤ L) (hI : tv_inv σ) (next : ∀ ρ, tv_inv ρ → G 444 [.ref b, .ref (h 0), .ref (h 20), .int (nI i)] [] ρ) : G 260 [.ref b, .ref (h 0), .ref (h 20), .int (nI i)] [] σ := by
  refine tv_aload_n hG dL_law_260 rfl rfl ?_
  refine tv_aload_n hG dL_law_261 rfl rfl ?_
  refine tv_iload_n hG dL_law_262 rfl rfl ?_
  refine tv_iconst (x := nI 1) hG dL_law_263 rfl ?_
  refine tv_iadd hG dL_law_264 ?_
  refine tv_sld hG (by omega) hL dL_law_265 ?_
  refine tv_aload_n hG dL_law_266 rfl rfl ?_
  refine tv_iload_n hG dL_law_267 rfl rfl ?_
  refine tv_iconst (x := nI 2) hG dL_law_268 rfl ?_
  refine tv_iadd hG dL_law_269 ?_
  refine tv_sld hG (by omega) hL dL_law_270 ?_
  refine tv_callLX (As := [.int (xs (i + 1)), .int (xs (i + 2))]) (st := []) hG (tv_cX_find l D h d σ (xs (i + 1)) (xs (i + 2)) hI.1) q144 q145 q146 q22 q147 2 (by decide +kernel) rfl rfl ⟨Nat.le_of_ble_eq_true rfl, Nat.le_of_ble_eq_true rfl⟩ rfl rfl (Nat.le_of_ble_eq_true rfl) dL_law_271 (fun z τ hp => ?_)
  refine tv_aload_n hG dL_law_274 rfl rfl ?_
  refine tv_aload_n hG dL_law_275 rfl rfl ?_
  refine tv_iload_n hG dL_law_276 rfl rfl ?_
  refine tv_iconst (x := nI 1) hG dL_law_277 rfl ?_
  refine tv_iadd hG dL_law_278 ?_
  refine tv_sld hG (by omega) hL dL_law_279 ?_
  refine tv_aload_n hG dL_law_280 rfl rfl ?_
  refine tv_iload_n hG dL_law_281 rfl rfl ?_
  refine tv_iconst (x := nI 2) hG dL_law_282 rfl ?_
  refine tv_iadd hG dL_law_283 ?_
  refine tv_sld hG (by omega) hL dL_law_284 ?_
  refine tv_callLM (As := [.int (xs (i + 1)), .int (xs (i + 2))]) (st := [.int z]) hG (tv_cM_find l D h d (tv_mg τ σ) (σ 1) (σ 2) (σ 0 0) (xs (i + 1)) (xs (i + 2)) (tv_inv_M hI) hI.1) q296 q297 q298 q23 q299 2 (by decide +kernel) rfl rfl ⟨Nat.le_of_ble_eq_true rfl, Nat.le_of_ble_eq_true rfl⟩ rfl rfl (Nat.le_of_ble_eq_true rfl) dL_law_285 (fun u ρ hp2 => ?_)
  have hz : z = u := tv_Lst_uni hp.1 hp2.1
  have hn : tv_inv (tv_mg (tv_mg τ σ) ρ) := tv_inv_q hI hp.2 hp2.2
  exact tv_zicmp_eq (tgt := 444) hG dL_law_288 (by decide) (fun _ => next _ hn) (fun q => absurd hz q)
set_option maxHeartbeats 4000000 in
theorem tv_L7 (hG : tv_isG l cL_law 4 RX0 room_1 D (tv_tL d) (tv_wL h d) (tv_EL b L xs) G) (hL : L ≤ 193) (hi : i + 3 ≤ L) (hI : tv_inv σ) (next : ∀ ρ, tv_inv ρ → G 444 [.ref b, .ref (h 0), .ref (h 20), .int (nI i)] [] ρ) : G 293 [.ref b, .ref (h 0), .ref (h 20), .int (nI i)] [] σ := by
  refine tv_aload_n hG dL_law_293 rfl rfl ?_
  refine tv_aload_n hG dL_law_294 rfl rfl ?_
  refine tv_iload_n hG dL_law_295 rfl rfl ?_
  refine tv_iconst (x := nI 1) hG dL_law_296 rfl ?_
  refine tv_iadd hG dL_law_297 ?_
  refine tv_sld hG (by omega) hL dL_law_298 ?_
  refine tv_callLX (As := [.int (xs (i + 1))]) (st := []) hG (tv_cX_values l D h d σ (xs (i + 1)) hI.1) q196 q197 q198 q22 q199 1 (by decide +kernel) rfl rfl ⟨Nat.le_of_ble_eq_true rfl, Nat.le_of_ble_eq_true rfl⟩ rfl rfl (Nat.le_of_ble_eq_true rfl) dL_law_299 (fun z τ hp => ?_)
  refine tv_aload_n hG dL_law_302 rfl rfl ?_
  refine tv_aload_n hG dL_law_303 rfl rfl ?_
  refine tv_iload_n hG dL_law_304 rfl rfl ?_
  refine tv_iconst (x := nI 1) hG dL_law_305 rfl ?_
  refine tv_iadd hG dL_law_306 ?_
  refine tv_sld hG (by omega) hL dL_law_307 ?_
  refine tv_callLM (As := [.int (xs (i + 1))]) (st := [.int z]) hG (tv_cM_values l D h d (tv_mg τ σ) (σ 1) (σ 2) (σ 0 0) (xs (i + 1)) (tv_inv_M hI) hI.1) q300 q301 q302 q23 q303 1 (by decide +kernel) rfl rfl ⟨Nat.le_of_ble_eq_true rfl, Nat.le_of_ble_eq_true rfl⟩ rfl rfl (Nat.le_of_ble_eq_true rfl) dL_law_308 (fun u ρ hp2 => ?_)
  have hz : z = u := tv_Vs_uni hp.1 hp2.1
  have hn : tv_inv (tv_mg (tv_mg τ σ) ρ) := tv_inv_q hI hp.2 hp2.2
  exact tv_zicmp_eq (tgt := 444) hG dL_law_311 (by decide) (fun _ => next _ hn) (fun q => absurd hz q)
set_option maxHeartbeats 4000000 in
theorem tv_L8 (hG : tv_isG l cL_law 4 RX0 room_1 D (tv_tL d) (tv_wL h d) (tv_EL b L xs) G) (hL : L ≤ 193) (hi : i + 3 ≤ L) (hI : tv_inv σ) (next : ∀ ρ, tv_inv ρ → G 444 [.ref b, .ref (h 0), .ref (h 20), .int (nI i)] [] ρ) : G 316 [.ref b, .ref (h 0), .ref (h 20), .int (nI i)] [] σ := by
  refine tv_aload_n hG dL_law_316 rfl rfl ?_
  refine tv_aload_n hG dL_law_317 rfl rfl ?_
  refine tv_iload_n hG dL_law_318 rfl rfl ?_
  refine tv_iconst (x := nI 1) hG dL_law_319 rfl ?_
  refine tv_iadd hG dL_law_320 ?_
  refine tv_sld hG (by omega) hL dL_law_321 ?_
  refine tv_callLX (As := [.int (xs (i + 1))]) (st := []) hG (tv_cX_valid l D h d σ (xs (i + 1)) hI.1) q200 q201 q202 q22 q203 1 (by decide +kernel) rfl rfl ⟨Nat.le_of_ble_eq_true rfl, Nat.le_of_ble_eq_true rfl⟩ rfl rfl (Nat.le_of_ble_eq_true rfl) dL_law_322 (fun z τ hp => ?_)
  refine tv_aload_n hG dL_law_325 rfl rfl ?_
  refine tv_aload_n hG dL_law_326 rfl rfl ?_
  refine tv_iload_n hG dL_law_327 rfl rfl ?_
  refine tv_iconst (x := nI 1) hG dL_law_328 rfl ?_
  refine tv_iadd hG dL_law_329 ?_
  refine tv_sld hG (by omega) hL dL_law_330 ?_
  refine tv_callLM (As := [.int (xs (i + 1))]) (st := [.int z]) hG (tv_cM_valid l D h d (tv_mg τ σ) (σ 1) (σ 2) (σ 0 0) (xs (i + 1)) (tv_inv_M hI) hI.1) q304 q305 q306 q23 q307 1 (by decide +kernel) rfl rfl ⟨Nat.le_of_ble_eq_true rfl, Nat.le_of_ble_eq_true rfl⟩ rfl rfl (Nat.le_of_ble_eq_true rfl) dL_law_331 (fun u ρ hp2 => ?_)
  have hz : z = u := tv_Bl_uni hp.1 hp2.1
  have hn : tv_inv (tv_mg (tv_mg τ σ) ρ) := tv_inv_q hI hp.2 hp2.2
  exact tv_zicmp_eq (tgt := 444) hG dL_law_334 (by decide) (fun _ => next _ hn) (fun q => absurd hz q)
set_option maxHeartbeats 4000000 in
theorem tv_L9 (hG : tv_isG l cL_law 4 RX0 room_1 D (tv_tL d) (tv_wL h d) (tv_EL b L xs) G) (hL : L ≤ 193) (hi : i + 3 ≤ L) (hI : tv_inv σ) (next : ∀ ρ, tv_inv ρ → G 444 [.ref b, .ref (h 0), .ref (h 20), .int (nI i)] [] ρ) : G 339 [.ref b, .ref (h 0), .ref (h 20), .int (nI i)] [] σ := by
  refine tv_aload_n hG dL_law_339 rfl rfl ?_
  refine tv_aload_n hG dL_law_340 rfl rfl ?_
  refine tv_iload_n hG dL_law_341 rfl rfl ?_
  refine tv_iconst (x := nI 1) hG dL_law_342 rfl ?_
  refine tv_iadd hG dL_law_343 ?_
  refine tv_sld hG (by omega) hL dL_law_344 ?_
  refine tv_aload_n hG dL_law_345 rfl rfl ?_
  refine tv_iload_n hG dL_law_346 rfl rfl ?_
  refine tv_iconst (x := nI 2) hG dL_law_347 rfl ?_
  refine tv_iadd hG dL_law_348 ?_
  refine tv_sld hG (by omega) hL dL_law_349 ?_
  refine tv_callLX (As := [.int (xs (i + 1)), .int (xs (i + 2))]) (st := []) hG (tv_cX_findBoth l D h d σ (xs (i + 1)) (xs (i + 2)) hI.1) q204 q205 q206 q22 q207 2 (by decide +kernel) rfl rfl ⟨Nat.le_of_ble_eq_true rfl, Nat.le_of_ble_eq_true rfl⟩ rfl rfl (Nat.le_of_ble_eq_true rfl) dL_law_350 (fun z τ hp => ?_)
  refine tv_aload_n hG dL_law_353 rfl rfl ?_
  refine tv_aload_n hG dL_law_354 rfl rfl ?_
  refine tv_iload_n hG dL_law_355 rfl rfl ?_
  refine tv_iconst (x := nI 1) hG dL_law_356 rfl ?_
  refine tv_iadd hG dL_law_357 ?_
  refine tv_sld hG (by omega) hL dL_law_358 ?_
  refine tv_aload_n hG dL_law_359 rfl rfl ?_
  refine tv_iload_n hG dL_law_360 rfl rfl ?_
  refine tv_iconst (x := nI 2) hG dL_law_361 rfl ?_
  refine tv_iadd hG dL_law_362 ?_
  refine tv_sld hG (by omega) hL dL_law_363 ?_
  refine tv_callLM (As := [.int (xs (i + 1)), .int (xs (i + 2))]) (st := [.int z]) hG (tv_cM_findBoth l D h d (tv_mg τ σ) (σ 1) (σ 2) (σ 0 0) (xs (i + 1)) (xs (i + 2)) (tv_inv_M hI) hI.1) q309 q310 q311 q23 q312 2 (by decide +kernel) rfl rfl ⟨Nat.le_of_ble_eq_true rfl, Nat.le_of_ble_eq_true rfl⟩ rfl rfl (Nat.le_of_ble_eq_true rfl) dL_law_364 (fun u ρ hp2 => ?_)
  have hz : z = u := tv_Lst_uni hp.1 hp2.1
  have hn : tv_inv (tv_mg (tv_mg τ σ) ρ) := tv_inv_q hI hp.2 hp2.2
  exact tv_zicmp_eq (tgt := 444) hG dL_law_367 (by decide) (fun _ => next _ hn) (fun q => absurd hz q)
set_option maxHeartbeats 4000000 in
theorem tv_L10 (hG : tv_isG l cL_law 4 RX0 room_1 D (tv_tL d) (tv_wL h d) (tv_EL b L xs) G) (hL : L ≤ 193) (hi : i + 3 ≤ L) (hI : tv_inv σ) (next : ∀ ρ, tv_inv ρ → G 444 [.ref b, .ref (h 0), .ref (h 20), .int (nI i)] [] ρ) : G 372 [.ref b, .ref (h 0), .ref (h 20), .int (nI i)] [] σ := by
  refine tv_aload_n hG dL_law_372 rfl rfl ?_
  refine tv_callLX (As := []) (st := []) hG (tv_cX_entails l D h d σ  hI.1) q212 q213 q214 q22 q215 0 (by decide +kernel) rfl rfl ⟨Nat.le_of_ble_eq_true rfl, Nat.le_of_ble_eq_true rfl⟩ rfl rfl (Nat.le_of_ble_eq_true rfl) dL_law_373 (fun z τ hp => ?_)
  refine tv_aload_n hG dL_law_376 rfl rfl ?_
  refine tv_callLM (As := []) (st := [.int z]) hG (tv_cM_entails l D h d (tv_mg τ σ) (σ 1) (σ 2) (σ 0 0)  (tv_inv_M hI) hI.1) q313 q314 q315 q23 q316 0 (by decide +kernel) rfl rfl ⟨Nat.le_of_ble_eq_true rfl, Nat.le_of_ble_eq_true rfl⟩ rfl rfl (Nat.le_of_ble_eq_true rfl) dL_law_377 (fun u ρ hp2 => ?_)
  have hz : z = u := tv_Bl_uni hp.1 hp2.1
  have hn : tv_inv (tv_mg (tv_mg τ σ) ρ) := tv_inv_q hI hp.2 hp2.2
  exact tv_zicmp_eq (tgt := 444) hG dL_law_380 (by decide) (fun _ => next _ hn) (fun q => absurd hz q)
set_option maxHeartbeats 4000000 in
theorem tv_L11 (hG : tv_isG l cL_law 4 RX0 room_1 D (tv_tL d) (tv_wL h d) (tv_EL b L xs) G) (hL : L ≤ 193) (hi : i + 3 ≤ L) (hI : tv_inv σ) (next : ∀ ρ, tv_inv ρ → G 444 [.ref b, .ref (h 0), .ref (h 20), .int (nI i)] [] ρ) : G 385 [.ref b, .ref (h 0), .ref (h 20), .int (nI i)] [] σ := by
  refine tv_aload_n hG dL_law_385 rfl rfl ?_
  refine tv_callLX (As := []) (st := []) hG (tv_cX_below l D h d σ  hI.1) q220 q221 q222 q22 q223 0 (by decide +kernel) rfl rfl ⟨Nat.le_of_ble_eq_true rfl, Nat.le_of_ble_eq_true rfl⟩ rfl rfl (Nat.le_of_ble_eq_true rfl) dL_law_386 (fun z τ hp => ?_)
  refine tv_aload_n hG dL_law_389 rfl rfl ?_
  refine tv_callLM (As := []) (st := [.int z]) hG (tv_cM_below l D h d (tv_mg τ σ) (σ 1) (σ 2) (σ 0 0)  (tv_inv_M hI) hI.1) q317 q318 q319 q23 q320 0 (by decide +kernel) rfl rfl ⟨Nat.le_of_ble_eq_true rfl, Nat.le_of_ble_eq_true rfl⟩ rfl rfl (Nat.le_of_ble_eq_true rfl) dL_law_390 (fun u ρ hp2 => ?_)
  have hz : z = u := tv_Bl_uni hp.1 hp2.1
  have hn : tv_inv (tv_mg (tv_mg τ σ) ρ) := tv_inv_q hI hp.2 hp2.2
  exact tv_zicmp_eq (tgt := 444) hG dL_law_393 (by decide) (fun _ => next _ hn) (fun q => absurd hz q)
set_option maxHeartbeats 4000000 in
theorem tv_L12 (hG : tv_isG l cL_law 4 RX0 room_1 D (tv_tL d) (tv_wL h d) (tv_EL b L xs) G) (hL : L ≤ 193) (hi : i + 3 ≤ L) (hI : tv_inv σ) (next : ∀ ρ, tv_inv ρ → G 444 [.ref b, .ref (h 0), .ref (h 20), .int (nI i)] [] ρ) : G 398 [.ref b, .ref (h 0), .ref (h 20), .int (nI i)] [] σ := by
  refine tv_aload_n hG dL_law_398 rfl rfl ?_
  refine tv_callLX (As := []) (st := []) hG (tv_cX_alike l D h d σ  hI.1) q224 q225 q226 q22 q227 0 (by decide +kernel) rfl rfl ⟨Nat.le_of_ble_eq_true rfl, Nat.le_of_ble_eq_true rfl⟩ rfl rfl (Nat.le_of_ble_eq_true rfl) dL_law_399 (fun z τ hp => ?_)
  refine tv_aload_n hG dL_law_402 rfl rfl ?_
  refine tv_callLM (As := []) (st := [.int z]) hG (tv_cM_alike l D h d (tv_mg τ σ) (σ 1) (σ 2) (σ 0 0)  (tv_inv_M hI) hI.1) q321 q322 q323 q23 q324 0 (by decide +kernel) rfl rfl ⟨Nat.le_of_ble_eq_true rfl, Nat.le_of_ble_eq_true rfl⟩ rfl rfl (Nat.le_of_ble_eq_true rfl) dL_law_403 (fun u ρ hp2 => ?_)
  have hz : z = u := tv_Bl_uni hp.1 hp2.1
  have hn : tv_inv (tv_mg (tv_mg τ σ) ρ) := tv_inv_q hI hp.2 hp2.2
  exact tv_zicmp_eq (tgt := 444) hG dL_law_406 (by decide) (fun _ => next _ hn) (fun q => absurd hz q)
set_option maxHeartbeats 4000000 in
theorem tv_L13 (hG : tv_isG l cL_law 4 RX0 room_1 D (tv_tL d) (tv_wL h d) (tv_EL b L xs) G) (hL : L ≤ 193) (hi : i + 3 ≤ L) (hI : tv_inv σ) (next : ∀ ρ, tv_inv ρ → G 444 [.ref b, .ref (h 0), .ref (h 20), .int (nI i)] [] ρ) : G 411 [.ref b, .ref (h 0), .ref (h 20), .int (nI i)] [] σ := by
  refine tv_aload_n hG dL_law_411 rfl rfl ?_
  refine tv_aload_n hG dL_law_412 rfl rfl ?_
  refine tv_iload_n hG dL_law_413 rfl rfl ?_
  refine tv_iconst (x := nI 1) hG dL_law_414 rfl ?_
  refine tv_iadd hG dL_law_415 ?_
  refine tv_sld hG (by omega) hL dL_law_416 ?_
  refine tv_aload_n hG dL_law_417 rfl rfl ?_
  refine tv_iload_n hG dL_law_418 rfl rfl ?_
  refine tv_iconst (x := nI 2) hG dL_law_419 rfl ?_
  refine tv_iadd hG dL_law_420 ?_
  refine tv_sld hG (by omega) hL dL_law_421 ?_
  refine tv_callLX (As := [.int (xs (i + 1)), .int (xs (i + 2))]) (st := []) hG (tv_cX_findApart l D h d σ (xs (i + 1)) (xs (i + 2)) hI.1) q228 q229 q230 q22 q231 2 (by decide +kernel) rfl rfl ⟨Nat.le_of_ble_eq_true rfl, Nat.le_of_ble_eq_true rfl⟩ rfl rfl (Nat.le_of_ble_eq_true rfl) dL_law_422 (fun z τ hp => ?_)
  refine tv_aload_n hG dL_law_425 rfl rfl ?_
  refine tv_aload_n hG dL_law_426 rfl rfl ?_
  refine tv_iload_n hG dL_law_427 rfl rfl ?_
  refine tv_iconst (x := nI 1) hG dL_law_428 rfl ?_
  refine tv_iadd hG dL_law_429 ?_
  refine tv_sld hG (by omega) hL dL_law_430 ?_
  refine tv_aload_n hG dL_law_431 rfl rfl ?_
  refine tv_iload_n hG dL_law_432 rfl rfl ?_
  refine tv_iconst (x := nI 2) hG dL_law_433 rfl ?_
  refine tv_iadd hG dL_law_434 ?_
  refine tv_sld hG (by omega) hL dL_law_435 ?_
  refine tv_callLM (As := [.int (xs (i + 1)), .int (xs (i + 2))]) (st := [.int z]) hG (tv_cM_findApart l D h d (tv_mg τ σ) (σ 1) (σ 2) (σ 0 0) (xs (i + 1)) (xs (i + 2)) (tv_inv_M hI) hI.1) q325 q326 q327 q23 q328 2 (by decide +kernel) rfl rfl ⟨Nat.le_of_ble_eq_true rfl, Nat.le_of_ble_eq_true rfl⟩ rfl rfl (Nat.le_of_ble_eq_true rfl) dL_law_436 (fun u ρ hp2 => ?_)
  have hz : z = u := tv_Lst_uni hp.1 hp2.1
  have hn : tv_inv (tv_mg (tv_mg τ σ) ρ) := tv_inv_q hI hp.2 hp2.2
  exact tv_zicmp_eq (tgt := 444) hG dL_law_439 (by decide) (fun _ => next _ hn) (fun q => absurd hz q)
end
end
section
set_option maxRecDepth 100000
theorem tv_lt3 {L i : Nat} (hL : L ≤ 193) (hi : i ≤ 400) (h : L < i + 3) : nI L - nI 3 < nI i := by
  rcases Nat.lt_or_ge L 3 with q | q
  · have e : nI L - nI 3 < 0 := by
      rcases (show L = 0 ∨ L = 1 ∨ L = 2 by omega) with rfl | rfl | rfl <;> decide
    exact Int32.lt_of_lt_of_le e (nI_pos' (by omega))
  · rw [pk_sub q]
    exact (nI_ltI (by omega) (by omega)).mpr (by omega)
/-! THE LAW's loop -/
set_option maxHeartbeats 4000000 in
theorem tv_loop {l : Launch} {D : va_G} {h : Nat → Nat} {d : Nat → ClassId} {G : Nat → List Value → List Value → tv_M → Prop} {b L : Nat} {xs : Nat → Int32} (hG : tv_isG l cL_law 4 RX0 room_1 D (tv_tL d) (tv_wL h d) (tv_EL b L xs) G) (hL : L ≤ 193) (fin : ∀ (vs : List Value) (σ : tv_M), G 451 vs [.int (nI 1)] σ) : ∀ (n i : Nat) (σ : tv_M), L + 1 ≤ i + n → i ≤ 400 → tv_inv σ → G 28 [.ref b, .ref (h 0), .ref (h 20), .int (nI i)] [] σ := by
  intro n
  induction n with
  | zero =>
    intro i σ h1 h2 hI
    refine tv_iload_n hG dL_law_28 rfl rfl ?_
    refine tv_aload_n hG dL_law_29 rfl rfl ?_
    refine tv_slen hG dL_law_30 ?_
    refine tv_iconst (x := nI 3) hG dL_law_31 rfl ?_
    refine tv_zisub (z := nI L - nI 3) hG dL_law_32 rfl ?_
    refine tv_zicmp_gt (tgt := 450) hG dL_law_33 (by decide) (fun _ => tv_iconst (x := nI 1) hG dL_law_450 rfl (fin _ _)) (fun q => absurd ?_ q)
    exact tv_lt3 hL h2 (by omega)
  | succ n ih =>
    intro i σ h1 h2 hI
    refine tv_iload_n hG dL_law_28 rfl rfl ?_
    refine tv_aload_n hG dL_law_29 rfl rfl ?_
    refine tv_slen hG dL_law_30 ?_
    refine tv_iconst (x := nI 3) hG dL_law_31 rfl ?_
    refine tv_zisub (z := nI L - nI 3) hG dL_law_32 rfl ?_
    refine tv_zicmp_gt (tgt := 450) hG dL_law_33 (by decide) (fun _ => tv_iconst (x := nI 1) hG dL_law_450 rfl (fin _ _)) (fun q => ?_)
    have hi : i + 3 ≤ L := by
      rcases Nat.lt_or_ge L (i + 3) with q1 | q1
      · exact absurd (tv_lt3 hL h2 q1) q
      · exact q1
    have next : ∀ ρ, tv_inv ρ → G 444 [.ref b, .ref (h 0), .ref (h 20), .int (nI i)] [] ρ := by
      intro ρ hρ
      refine tv_iinc (y := nI (i + 3)) (vs1 := [.ref b, .ref (h 0), .ref (h 20), .int (nI (i + 3))]) hG dL_law_444 rfl (nI_add i 3) (by decide) rfl ?_
      refine tv_goto (tgt := 28) hG dL_law_447 (by decide) ?_
      exact ih (i + 3) ρ (by omega) (by omega) hρ
    refine tv_aload_n hG dL_law_36 rfl rfl ?_
    refine tv_iload_n hG dL_law_37 rfl rfl ?_
    refine tv_sld hG (by omega) hL dL_law_38 ?_
    refine tv_bipush (x := nI 15) hG dL_law_39 rfl ?_
    obtain ⟨k, hk, ek⟩ := pk_andE (xs i) (m := nI 15) 4 (by decide)
    refine tv_ziand (z := nI k) hG dL_law_41 ek ?_
    have hk : k < 16 := hk
    rcases (show k = 0 ∨ k = 1 ∨ k = 2 ∨ k = 3 ∨ k = 4 ∨ k = 5 ∨ k = 6 ∨ k = 7 ∨ k = 8 ∨ k = 9 ∨ k = 10 ∨ k = 11 ∨ k = 12 ∨ k = 13 ∨ k = 14 ∨ k = 15 by omega) with rfl | rfl | rfl | rfl | rfl | rfl | rfl | rfl | rfl | rfl | rfl | rfl | rfl | rfl | rfl | rfl
    · exact tv_swIn (tgt := 112) hG dL_law_42 (by decide) (by decide) rfl (by decide) (tv_L0 hG hL hi hI next)
    · exact tv_swIn (tgt := 125) hG dL_law_42 (by decide) (by decide) rfl (by decide) (tv_L1 hG hL hi hI next)
    · exact tv_swIn (tgt := 148) hG dL_law_42 (by decide) (by decide) rfl (by decide) (tv_L2 hG hL hi hI next)
    · exact tv_swIn (tgt := 181) hG dL_law_42 (by decide) (by decide) rfl (by decide) (tv_L3 hG hL hi hI next)
    · exact tv_swIn (tgt := 204) hG dL_law_42 (by decide) (by decide) rfl (by decide) (tv_L4 hG hL hi hI next)
    · exact tv_swIn (tgt := 227) hG dL_law_42 (by decide) (by decide) rfl (by decide) (tv_L5 hG hL hi hI next)
    · exact tv_swIn (tgt := 260) hG dL_law_42 (by decide) (by decide) rfl (by decide) (tv_L6 hG hL hi hI next)
    · exact tv_swIn (tgt := 293) hG dL_law_42 (by decide) (by decide) rfl (by decide) (tv_L7 hG hL hi hI next)
    · exact tv_swIn (tgt := 316) hG dL_law_42 (by decide) (by decide) rfl (by decide) (tv_L8 hG hL hi hI next)
    · exact tv_swIn (tgt := 339) hG dL_law_42 (by decide) (by decide) rfl (by decide) (tv_L9 hG hL hi hI next)
    · exact tv_swIn (tgt := 372) hG dL_law_42 (by decide) (by decide) rfl (by decide) (tv_L10 hG hL hi hI next)
    · exact tv_swIn (tgt := 385) hG dL_law_42 (by decide) (by decide) rfl (by decide) (tv_L11 hG hL hi hI next)
    · exact tv_swIn (tgt := 398) hG dL_law_42 (by decide) (by decide) rfl (by decide) (tv_L12 hG hL hi hI next)
    · exact tv_swIn (tgt := 411) hG dL_law_42 (by decide) (by decide) rfl (by decide) (tv_L13 hG hL hi hI next)
    · exact tv_swOut (tgt := 444) hG dL_law_42 (by decide) (by decide) (next σ hI)
    · exact tv_swOut (tgt := 444) hG dL_law_42 (by decide) (by decide) (next σ hI)
end
section
set_option maxRecDepth 100000
/-! THE LAW's start -/
set_option maxHeartbeats 4000000 in
theorem tv_cell (l : Launch) (b L : Nat) (xs : Nat → Int32) (sz : Nat) (hL : L ≤ 193) : Met l yX0_cell (ws_ yX0_cell cX0_cell 2 (some .int)) ({ frames := 0, cells := 0, slots := 0, locals := 0 } : Room) (va_Pc [.ref b, .int (nI 0)] (fun U => U.heap.size = sz ∧ va_X b L xs U U.heap)) (va_Qi (fun (z : Int32) (_ : Unit) => z = if 0 < L then xs 0 else nI 0) (fun _ _ => True) (fun q => sz ≤ q)) 0 0 (fun q => sz ≤ q) := by
  refine Met.ofW (cc := cX0_cell) (maxL := 2) (ret := (some .int)) (by decide) rfl ?_
  intro p e s m args below meth c s₁ B hml hv
  obtain ⟨rfl, hsz, hX⟩ := hv
  have hx := B.exec
  have hb := B.bytes
  have hr := B.returns
  have hlocks := B.notSynchronized
  subst hsz
  have hbl : b < s.heap.size := by
    obtain ⟨scr, h1, -⟩ := hX
    exact (Array.getElem?_eq_some_iff.mp h1).1
  have hbA : ¬ (fun q : Nat => s.heap.size ≤ q) b := Nat.not_le.mpr hbl
  have hS : va_S (fun q : Nat => s.heap.size ≤ q) s.heap s.heap [] := va_S.rf
  have hl := lv_entry ([.ref b, .int (nI 0)]) (n := 2) (Nat.le_of_ble_eq_true rfl)
  rw [lg_entry_eq]
  generalize (lg_sl ([.ref b, .int (nI 0)]) ++ List.replicate (2 - (lg_sl ([.ref b, .int (nI 0)])).length) Slot.unset).toArray = ls at hl ⊢
  have hl : lv_has ls 2 [(0, .ref b), (1, .int (nI 0))] := hl
  refine lv_iload_n hx hb dX0_cell_0 rfl (lv_at hl 1 rfl) ?_
  refine lv_aload_n hx hb dX0_cell_1 rfl (lv_at hl 0 rfl) ?_
  refine va_slen hx hb hX hbl hbA hS dX0_cell_2 ?_
  refine lv_icmp_ge (tgt := 12) hx hb dX0_cell_3 (by decide) (fun c1 => ?_) (fun c1 => ?_)
  · have h0 : ¬ 0 < L := fun q => absurd ((nI_leI (a := L) (b := 0) (by omega) (by decide)).mp c1) (by omega)
    refine lv_iconst (v := nI 0) hx hb dX0_cell_12 rfl ?_
    exact W.iret (v := nI 0) hx hb hr (fun t ht hW => ⟨⟨nI 0, (), rfl, by rw [if_neg h0], trivial⟩, hS.F ht⟩) hS.2.2 dX0_cell_13
  · have h0 : 0 < L := Nat.pos_of_ne_zero (fun q => c1 (by subst q; decide))
    refine lv_aload_n hx hb dX0_cell_6 rfl (lv_at hl 0 rfl) ?_
    refine lv_iload_n hx hb dX0_cell_7 rfl (lv_at hl 1 rfl) ?_
    refine va_sld (i := nI 0) hx hb hX hbl hbA hS (vp_in_nI h0 (by omega)) dX0_cell_8 ?_
    rw [nI_clamp (by decide)]
    refine lv_goto (tgt := 13) hx hb dX0_cell_9 (by decide) ?_
    exact W.iret (v := xs 0) hx hb hr (fun t ht hW => ⟨⟨xs 0, (), rfl, by rw [if_pos h0], trivial⟩, hS.F ht⟩) hS.2.2 dX0_cell_13
theorem tv_ls_4 {ls : Array Slot} {v0 v1 v2 v3 : Value} (h0 : v0.category = 1) (h1 : v1.category = 1) (h2 : v2.category = 1) (h3 : v3.category = 1) (hl : lv_has ls 4 [(0, v0), (1, v1), (2, v2), (3, v3)]) : tv_ls ls 4 [v0, v1, v2, v3] := by
  refine ⟨hl.1, hl.2.1, ?_, ?_⟩
  · intro v hv
    simp only [List.mem_cons, List.not_mem_nil, or_false] at hv
    rcases hv with e | e | e | e <;> (rw [e]; assumption)
  · intro i v hv
    match i, hv with
    | 0, hv => cases hv; exact lv_at hl 0 rfl
    | 1, hv => cases hv; exact lv_at hl 1 rfl
    | 2, hv => cases hv; exact lv_at hl 2 rfl
    | 3, hv => cases hv; exact lv_at hl 3 rfl
    | k + 4, hv => simp at hv
/-- one family of addresses (of array classes) out of two -/
def tv_fam {α : Type} (f g : Nat → α) : Nat → α := fun k => if k < 20 then f k else g k
theorem tv_GS0 {v : Nat} (h : v ≤ 2) : tv_inv (tv_s0 v) := by
  refine ⟨⟨?_, ?_, ?_⟩, rfl, rfl, rfl⟩
  · show v < 3
    omega
  · intro f hf
    refine ⟨Nat.zero_le _, fun k hk => absurd hk (Nat.not_lt_zero k)⟩
  · intro c hc
    exact (by decide : (0 : Nat) < 8)
set_option maxHeartbeats 4000000 in
/-- from the entry, for every script of at most 193 ints, the law comes to its end with true -/
theorem whole_start {p : Program} {e : Env} {s : State} {m : MethodId} {below : List Frame} {meth : Method} {c : Code} (l : Launch) {b L : Nat} {xs : Nat → Int32} (hL : L ≤ 193) (C0 : lw_At p s m meth c b L xs) : W p l e room_1 s m #[Value.ref b] below meth c s.heap [] 0 0 (lw_Z below #[Value.ref b] s) (entryFrame m ([Value.ref b] : List Value).toArray 4) := by
  obtain ⟨hx, hb, hr, hml, hown, hts0, hX, hbl, hlocks, hgv⟩ := id C0
  have hts : ∀ w ∈ lw_all, w.before #[Value.ref b] s = true := fun w h => hts0 w (lw_all_tbl h)
  have hown : s.vm.findClass RX0 = some m.cls := hown
  have hA : ∀ q : Nat, s.heap.size ≤ q → (fun q : Nat => s.heap.size ≤ q) q := fun _ h => h
  have hbA : ¬ (fun q : Nat => s.heap.size ≤ q) b := Nat.not_le.mpr hbl
  obtain ⟨c0, iS0, hKn0⟩ := u_known (C := RX1) (T := TX1) (N := 20) (n := 20) hts in_X1 (hts _ q25)
  obtain ⟨c1, iS1, hKn1⟩ := u_known (C := RX2) (T := TX2) (N := 4) (n := 4) hts in_X2 (hts _ q236)
  obtain ⟨dC, dI, hKc⟩ : ∃ (dC : Nat → ClassId) (dI : Nat → Nat → Nat), ∀ (k : Nat) (q : vw_C), tv_cl[k]? = some q → u_Kn s q.1 q.2.1 q.2.2 (dC k) (dI k) := by
    refine ⟨fun k => if k = 0 then c0 else c1, fun k => if k = 0 then iS0 else iS1, ?_⟩
    intro k q hq
    match k, hq with
    | 0, hq => cases hq; exact hKn0
    | 1, hq => cases hq; exact hKn1
    | k + 2, hq => simp [tv_cl] at hq
  have hS : va_S (fun q : Nat => s.heap.size ≤ q) s.heap s.heap [] := va_S.rf
  have hK : va_K (dC, dI) tv_cl [] s := ⟨hKc, fun k q h => by simp at h⟩
  have hP : va_P (dC, dI) tv_cl [] s.heap := fun k q h => by simp at h
  have hD : va_D (fun q : Nat => s.heap.size ≤ q) [] := ⟨fun i j p q h => by simp at h, fun k q h => by simp at h⟩
  have hl := lv_entry ([.ref b]) (n := 4) (Nat.le_of_ble_eq_true rfl)
  rw [lg_entry_eq]
  generalize (lg_sl ([.ref b]) ++ List.replicate (4 - (lg_sl ([.ref b])).length) Slot.unset).toArray = ls at hl ⊢
  have hl : lv_has ls 4 [(0, .ref b)] := hl
  refine va_new (ci := 0) (fs := [.int 0, .null, .null, .null, .null, .null, .int 0, .null, .null, .int 0, .int 0, .null, .null, .null, .null, .null, .int 0, .int 0, .null, .null]) (C := RX1) (T := TX1) (N := 20) hx hb hts in_X1 tyX1 tyX1_ok hown (hts _ q24) (hts _ q25) (hts _ q22) hK hP hD hS hA rfl (fun j hj => by rcases (show j = 0 ∨ j = 1 ∨ j = 2 ∨ j = 3 ∨ j = 4 ∨ j = 5 ∨ j = 6 ∨ j = 7 ∨ j = 8 ∨ j = 9 ∨ j = 10 ∨ j = 11 ∨ j = 12 ∨ j = 13 ∨ j = 14 ∨ j = 15 ∨ j = 16 ∨ j = 17 ∨ j = 18 ∨ j = 19 by omega) with rfl | rfl | rfl | rfl | rfl | rfl | rfl | rfl | rfl | rfl | rfl | rfl | rfl | rfl | rfl | rfl | rfl | rfl | rfl | rfl <;> rfl) (Nat.le_of_ble_eq_true rfl) (Nat.le_of_ble_eq_true rfl) dL_law_0 (fun q0 H hP hD hS => ?_)
  have hP : va_P (dC, dI) tv_cl [(q0, .inr (0, [.int 0, .null, .null, .null, .null, .null, .int 0, .null, .null, .int 0, .int 0, .null, .null, .null, .null, .null, .int 0, .int 0, .null, .null]))] H := hP
  have hD : va_D (fun q : Nat => s.heap.size ≤ q) [(q0, .inr (0, [.int 0, .null, .null, .null, .null, .null, .int 0, .null, .null, .int 0, .int 0, .null, .null, .null, .null, .null, .int 0, .int 0, .null, .null]))] := hD
  refine lv_dup hx hb dL_law_3 rfl ?_
  refine lv_aload_n hx hb dL_law_4 rfl (lv_at hl 0 rfl) ?_
  refine lv_iconst (v := nI 0) hx hb dL_law_5 rfl ?_
  refine va_calli (va_runS (As := [.ref b, .int (nI 0)]) (rest := [.ref q0, .ref q0]) ⟨hx, hb, hml, hown, hts⟩ (tv_cell l b L xs H.size hL) (va_cwS 2 hts (lw_S q232 q233 q21 q234) rfl rfl rfl (by decide +kernel) ⟨Nat.le_of_ble_eq_true rfl, Nat.le_of_ble_eq_true rfl⟩) ⟨fun a U g mk q => by obtain ⟨q0, q1, qX⟩ := q; exact ⟨q0, q1, va_X.moved (u := U) (U := U.calling g mk a) (Vm.Alike.refl U.vm) qX⟩, fun U hU hW => ⟨rfl, by rw [hU], by rw [hU]; exact va_X.moved hW.alike (hX.kept (hS.2.1 b hbl hbA))⟩⟩ rfl rfl hl.1 rfl (lv_room (Nat.le_of_ble_eq_true rfl)) dL_law_6 ⟨Nat.le_of_ble_eq_true rfl, Nat.le_of_ble_eq_true rfl⟩) hS (fun q _ h => Nat.le_trans hS.1 h) (fun q h => Nat.le_trans hS.1 h) (fun z1 u t H1 locs ht hvm hw1 hB hz1 hk1 hS => ?_)
  have hP : va_P (dC, dI) tv_cl [(q0, .inr (0, [.int 0, .null, .null, .null, .null, .null, .int 0, .null, .null, .int 0, .int 0, .null, .null, .null, .null, .null, .int 0, .int 0, .null, .null]))] H1 := hP.kept (fun k x hx => hk1 x.1 ((hP k x hx).lt) (Nat.not_le.mpr ((hP k x hx).lt)))
  generalize H1 = H at hP hS ⊢
  have hcz1 : z1 = if 0 < L then xs 0 else nI 0 := hw1
  have hPc := hP.sub (ws' := [(q0, .inr (0, [.int 0, .null, .null, .null, .null, .null, .int 0, .null, .null, .int 0, .int 0, .null, .null, .null, .null, .null, .int 0, .int 0, .null, .null]))]) [0] rfl
  have hDc := hD.sub (ws' := [(q0, .inr (0, [.int 0, .null, .null, .null, .null, .null, .int 0, .null, .null, .int 0, .int 0, .null, .null, .null, .null, .null, .int 0, .int 0, .null, .null]))]) [0] (by decide) rfl
  have hKc := hK.sub (tys' := []) [] rfl
  have hFc := va_free (wc := [(q0, .inr (0, [.int 0, .null, .null, .null, .null, .null, .int 0, .null, .null, .int 0, .int 0, .null, .null, .null, .null, .null, .int 0, .int 0, .null, .null]))]) hD hS hA [0] rfl
  refine va_callv (va_runI (As := [.int z1]) (rest := [.ref q0]) ⟨hx, hb, hml, hown, hts⟩ (tv_iX l (dC, dI) q0 H.size z1) (cwI 1 hts (lw_meth q28) rfl rfl rfl (hts _ q22) (hts _ q26) (hts _ q27) rfl (by decide +kernel) ⟨Nat.le_of_ble_eq_true rfl, Nat.le_of_ble_eq_true rfl⟩) ⟨fun a U g mk q => by obtain ⟨q0, q1, qP, qK, qD⟩ := q; exact ⟨q0, q1, qP, va_K.moved (u := U) (U := U.calling g mk a) (Vm.Alike.refl U.vm) qK, qD⟩, fun U hU hW => ⟨rfl, by rw [hU], by rw [hU]; exact hPc, va_K.moved hW.alike hKc, hDc.weaken (fun _ _ _ _ => trivial)⟩⟩ rfl rfl hl.1 rfl (lv_room (Nat.le_of_ble_eq_true rfl)) dL_law_9 ⟨Nat.le_of_ble_eq_true rfl, Nat.le_of_ble_eq_true rfl⟩) hS (fun q _ h => hFc q h) hFc (fun u t H1 locs ht hvm hw2 hB hz1 hk1 hS => ?_)
  obtain ⟨h1, d1, v1⟩ := u
  obtain ⟨hP1, hK1, hD1⟩ := hB
  rw [ht] at hP1
  have hK1 := va_K.moved hvm.symm hK1
  obtain ⟨eh1, ev1⟩ := hw2
  have eh1 : h1 0 = q0 := eh1
  have ev1 : tv_cl3 z1 v1 := ev1
  obtain ⟨hP, hD⟩ := va_join (wr := []) (w1 := tv_wX h1 d1 (tv_s0 v1)) hP hD [0] [] rfl rfl (by decide) (by decide) hk1 hFc hP1 hD1
  have hK : va_K (dC, dI) tv_cl ([] ++ tv_tX d1) s := hK.app hK1
  generalize H1 = H at hP hS ⊢
  have hP : va_P (dC, dI) tv_cl (tv_wX h1 d1 (tv_s0 v1)) H := hP
  have hD : va_D (fun q : Nat => s.heap.size ≤ q) (tv_wX h1 d1 (tv_s0 v1)) := hD
  have hK : va_K (dC, dI) tv_cl (tv_tX d1) s := hK
  refine W.widen (k := 15) (n := 252) (Nat.le_of_ble_eq_true rfl) (Nat.le_of_ble_eq_true rfl) ?_
  refine lv_astore_n (lv' := [(1, .ref q0), (0, .ref b)]) hx hb dL_law_12 rfl hl (by decide) rfl (fun ls hl => ?_)
  refine va_new (ci := 1) (fs := [.int 0, .null, .null, .null]) (C := RX2) (T := TX2) (N := 4) hx hb hts in_X2 tyX2 tyX2_ok hown (hts _ q235) (hts _ q236) (hts _ q23) hK hP hD hS hA rfl (fun j hj => by rcases (show j = 0 ∨ j = 1 ∨ j = 2 ∨ j = 3 by omega) with rfl | rfl | rfl | rfl <;> rfl) (Nat.le_of_ble_eq_true rfl) (Nat.le_of_ble_eq_true rfl) dL_law_13 (fun q20 H hP hD hS => ?_)
  refine lv_dup hx hb dL_law_16 rfl ?_
  refine lv_aload_n hx hb dL_law_17 rfl (lv_at hl 1 rfl) ?_
  refine lv_iconst (v := nI 0) hx hb dL_law_18 rfl ?_
  refine va_calli (va_runS (As := [.ref b, .int (nI 0)]) (rest := [.ref q20, .ref q20]) ⟨hx, hb, hml, hown, hts⟩ (tv_cell l b L xs H.size hL) (va_cwS 2 hts (lw_S q232 q233 q21 q234) rfl rfl rfl (by decide +kernel) ⟨Nat.le_of_ble_eq_true rfl, Nat.le_of_ble_eq_true rfl⟩) ⟨fun a U g mk q => by obtain ⟨q0, q1, qX⟩ := q; exact ⟨q0, q1, va_X.moved (u := U) (U := U.calling g mk a) (Vm.Alike.refl U.vm) qX⟩, fun U hU hW => ⟨rfl, by rw [hU], by rw [hU]; exact va_X.moved hW.alike (hX.kept (hS.2.1 b hbl hbA))⟩⟩ rfl rfl hl.1 rfl (lv_room (Nat.le_of_ble_eq_true rfl)) dL_law_19 ⟨Nat.le_of_ble_eq_true rfl, Nat.le_of_ble_eq_true rfl⟩) hS (fun q _ h => Nat.le_trans hS.1 h) (fun q h => Nat.le_trans hS.1 h) (fun z2 u t H1 locs ht hvm hw1 hB hz1 hk1 hS => ?_)
  have hP : va_P (dC, dI) tv_cl (tv_wX h1 d1 (tv_s0 v1) ++ [(q20, .inr (1, [.int 0, .null, .null, .null]))]) H1 := hP.kept (fun k x hx => hk1 x.1 ((hP k x hx).lt) (Nat.not_le.mpr ((hP k x hx).lt)))
  generalize H1 = H at hP hS ⊢
  have hcz2 : z2 = if 0 < L then xs 0 else nI 0 := hw1
  have hPc := hP.sub (ws' := [(q20, .inr (1, [.int 0, .null, .null, .null]))]) [15] rfl
  have hDc := hD.sub (ws' := [(q20, .inr (1, [.int 0, .null, .null, .null]))]) [15] (by decide) rfl
  have hKc := hK.sub (tys' := []) [] rfl
  have hFc := va_free (wc := [(q20, .inr (1, [.int 0, .null, .null, .null]))]) hD hS hA [15] rfl
  refine va_callv (va_runI (As := [.int z2]) (rest := [.ref q20]) ⟨hx, hb, hml, hown, hts⟩ (tv_iM l (dC, dI) q20 H.size z2) (cwI 1 hts (lw_meth q239) rfl rfl rfl (hts _ q23) (hts _ q237) (hts _ q238) rfl (by decide +kernel) ⟨Nat.le_of_ble_eq_true rfl, Nat.le_of_ble_eq_true rfl⟩) ⟨fun a U g mk q => by obtain ⟨q0, q1, qP, qK, qD⟩ := q; exact ⟨q0, q1, qP, va_K.moved (u := U) (U := U.calling g mk a) (Vm.Alike.refl U.vm) qK, qD⟩, fun U hU hW => ⟨rfl, by rw [hU], by rw [hU]; exact hPc, va_K.moved hW.alike hKc, hDc.weaken (fun _ _ _ _ => trivial)⟩⟩ rfl rfl hl.1 rfl (lv_room (Nat.le_of_ble_eq_true rfl)) dL_law_22 ⟨Nat.le_of_ble_eq_true rfl, Nat.le_of_ble_eq_true rfl⟩) hS (fun q _ h => hFc q h) hFc (fun u t H1 locs ht hvm hw2 hB hz1 hk1 hS => ?_)
  obtain ⟨h2, d2, v2⟩ := u
  obtain ⟨hP1, hK1, hD1⟩ := hB
  rw [ht] at hP1
  have hK1 := va_K.moved hvm.symm hK1
  obtain ⟨eh2, ev2⟩ := hw2
  have eh2 : h2 20 = q20 := eh2
  have ev2 : tv_cl3 z2 v2 := ev2
  obtain ⟨hP, hD⟩ := va_join (wr := tv_wX h1 d1 (tv_s0 v1)) (w1 := tv_wM h2 d2 (tv_s0 v2)) hP hD [15] [0, 1, 2, 3, 4, 5, 6, 7, 8, 9, 10, 11, 12, 13, 14] rfl rfl (by decide) (by decide) hk1 hFc hP1 hD1
  have hK : va_K (dC, dI) tv_cl (tv_tX d1 ++ tv_tM d2) s := hK.app hK1
  generalize H1 = H at hP hS ⊢
  have e12 : z2 = z1 := hcz2.trans hcz1.symm
  rw [e12] at ev2
  have ev : v1 = v2 := tv_cl3_uni ev1 ev2
  subst ev
  have hP : va_P (dC, dI) tv_cl (tv_wL (tv_fam h1 h2) (tv_fam d1 d2) (tv_s0 v1)) H := hP
  have hD : va_D (fun q : Nat => s.heap.size ≤ q) (tv_wL (tv_fam h1 h2) (tv_fam d1 d2) (tv_s0 v1)) := hD
  have hK : va_K (dC, dI) tv_cl (tv_tL (tv_fam d1 d2)) s := hK
  refine W.widen (k := 19) (n := 286) (Nat.le_of_ble_eq_true rfl) (Nat.le_of_ble_eq_true rfl) ?_
  refine lv_astore_n (lv' := [(2, .ref q20), (1, .ref q0), (0, .ref b)]) hx hb dL_law_25 rfl hl (by decide) rfl (fun ls hl => ?_)
  refine lv_iconst (v := nI 1) hx hb dL_law_26 rfl ?_
  refine lv_istore_n (lv' := [(3, .int (nI 1)), (2, .ref q20), (1, .ref q0), (0, .ref b)]) hx hb dL_law_27 rfl hl (by decide) rfl (fun ls hl => ?_)
  have hls : tv_ls ls 4 [.ref b, .ref (tv_fam h1 h2 0), .ref (tv_fam h1 h2 20), .int (nI 1)] := by
    refine tv_ls_4 rfl rfl rfl rfl ?_
    show lv_has ls 4 [(0, .ref b), (1, .ref (h1 0)), (2, .ref (h2 20)), (3, .int (nI 1))]
    rw [show h1 0 = q0 from eh1, show h2 20 = q20 from eh2]
    exact lv_sub hl [3, 2, 1, 0] rfl
  refine tv_loop (l := l) (D := (dC, dI)) (h := tv_fam h1 h2) (d := tv_fam d1 d2) (b := b) (L := L) (xs := xs) (G := fun pc vs st σ => ∀ (H : Heap) (locs : List Loc) (ls : Array Slot), tv_X (dC, dI) (tv_tL (tv_fam d1 d2)) (tv_wL (tv_fam h1 h2) (tv_fam d1 d2)) (fun q : Nat => s.heap.size ≤ q) s σ H locs → tv_ls ls 4 vs → W p l e room_1 s m #[Value.ref b] below meth c H locs 19 286 (lw_Z below #[Value.ref b] s) (F0 m pc ls st)) ⟨p, e, s, m, #[Value.ref b], below, meth, c, 19, 286, lw_Z below #[Value.ref b] s, fun q : Nat => s.heap.size ≤ q, hx, hb, hml, hown, hts, hA, ⟨hX, hbl, hbA⟩, Nat.le_of_ble_eq_true rfl, Nat.le_of_ble_eq_true rfl, rfl⟩ hL ?_ L 1 (tv_s0 v1) (by omega) (by omega) (tv_GS0 (tv_cl3_le ev1)) H locs ls ⟨hK, hP, hD, hS⟩ hls
  intro vs σ H locs ls hXX hlls
  refine va_forget (fun q hq => hXX.2.2.2.2.2 q hq) ?_
  refine W.widen (k := 600000) (n := 7290000) (Nat.le_of_ble_eq_true rfl) (Nat.le_of_ble_eq_true rfl) ?_
  exact lw_ret hx hb hr hlocks dL_law_451
end
section
set_option maxRecDepth 100000
set_option maxHeartbeats 4000000 in
theorem lw_walk (l : Launch) (b : Addr) (xs : List Int32) : MetFree l x (headSpec (Jvm.Cond.code x code maxLocals ret :: tables_1) room_1) (lw_P b xs) (fun _ _ _ _ _ => True) lw_Q := by
  refine MetFree.of_bodyS (code := code) (maxLocals := maxLocals) (ret := ret) (by decide) ?_ ?_
  · intro args s m h hn
    obtain ⟨meth, c, h1, h2, h3, h4, h5, h6, -, -⟩ := Cond.code_spec hn (atoms_spec (ws := Jvm.Cond.code x code maxLocals ret :: tables_1) h _ List.mem_cons_self)
    exact ⟨meth, c, h1, h2, h3, h4, h5, h6⟩
  · intro p e s m args below meth c s₁ B hml0 hP _
    obtain ⟨rfl, hx, hbd, hgv⟩ := hP
    obtain ⟨scr, harrAt, hlist, hof, hsmall⟩ := hx
    obtain ⟨hcb, hkn, -, -⟩ := State.arrayAt?_spec harrAt
    have hown : s.vm.findClass R_law = some m.cls := findClass_of_methodNamed B.named
    have hts0 : ∀ c ∈ (Jvm.Cond.code x code maxLocals ret :: tables_1), c.before #[Value.ref b] s = true := atoms_spec (ws := Jvm.Cond.code x code maxLocals ret :: tables_1) B.pre
    have hts : ∀ w ∈ lw_tbl, w.before #[Value.ref b] s = true := k2_hts_sels lw_privs (fun w hw => hts0 w (List.mem_cons_of_mem _ hw)) lw_privs_ok
    have hml : c.maxLocals = 4 := B.maxLocals_eq (hts0 _ List.mem_cons_self)
    have X₀ : Stand p l e room_1 s m #[Value.ref b] below meth c s₁ [] 0 0 := Stand.of_body B
    have hh0 : s₁.heap = s.heap := by rw [B.state]; rfl
    have hsz : scr.slots.size = xs.length := by rw [← Array.length_toList, hlist, List.length_map]
    have hval : ∀ j : Nat, j < xs.length → scr.slots[j]? = some (.int (xs.getD j 0)) := fun j hj => by
      rw [← Array.getElem?_toList, hlist]
      simp [hj]
    have hbl : b < s.heap.size := (Array.getElem?_eq_some_iff.mp hcb).1
    have hX : va_X b xs.length (fun j => xs.getD j 0) s s.heap := ⟨scr, hcb, hof, hkn, hsz, hval⟩
    have K : W p l e room_1 s m #[Value.ref b] below meth c s₁.heap [] 0 0 (lw_Z below #[Value.ref b] s) (entryFrame m ([Value.ref b] : List Value).toArray 4) := by
      rw [hh0]
      exact whole_start l hbd ⟨B.exec, B.bytes, B.returns, hml, hown, hts, hX, hbl, B.notSynchronized, hgv⟩
    obtain ⟨t, a1, o, b1, b2, b3⟩ := K s₁ rfl X₀
    exact ⟨t, o, a1, b1, b2, b3⟩
theorem lw_pre_spec {args : Array Value} {s : State} (h : (Jvm.Cond.and given_1 narrow_1).before args s = true) (hr : rest_1_c.before args s = true) : ∃ (b : Addr) (xs : List Int32), lw_P b xs args s := by
  have hs := flat_of_before _ h
  have hq := flat_of_before _ hr
  have hc : (Cond.count 1).before args s = true := hs _ (by decide +kernel)
  have harr : (Cond.arrayOf (.arg 0) .int).before args s = true := hs _ (by decide +kernel)
  have hle : (Cond.le (.length (.arg 0)) (.int 193)).before args s = true := hs _ (by decide +kernel)
  have hlen : (Cond.isInt (.length (.arg 0))).before args s = true := hq _ (by decide +kernel)
  have hall : (Cond.all (.arg 0) (.isInt (.elem (.arg 0) (.index 0)))).before args s = true := hq _ (by decide +kernel)
  obtain ⟨b, xs, hb, hx⟩ := State.ints_of_pre rfl harr hlen hall
  have hsm : xs.length < 2 ^ 31 := hx.choose_spec.2.2.2
  have hev : (Term.length (.arg 0)).eval args s none [] s = some (.int xs.length.toInt32) := hx.length_eval hb
  have hv := Cond.le_ints hev (show (Term.int 193).eval args s none [] s = some (.int 193) from rfl)
  have hd : xs.length.toInt32 ≤ 193 := by
    simpa [Cond.before, Cond.holds, hv] using hle
  have hN : xs.length ≤ 193 := (Int32.ofNat_le_ofNat hsm (by decide)).mp (show Int32.ofNat xs.length ≤ Int32.ofNat 193 from hd)
  exact ⟨b, xs, Cond.one_arg hc (show args[0]? = some (.ref b) from hb), hx, hN, h⟩
theorem lw_comes (l : Launch) : Comes l x (Jvm.Cond.code x code maxLocals ret :: tables_1) room_1 (fun tb e args s => Calls_1 tb e args s ∧ rest_1 tb e args s ∧ Pre_1 tb e args s)
    (fun _ _ args s o t => lw_Q args s o t) := by
  intro p e ha hc hk s m args below hf hfit hheap happ hpre
  obtain ⟨b, xs, hP⟩ := lw_pre_spec hpre.2.2 hpre.2.1
  obtain ⟨k, o, h1, h2, h3, hQ⟩ := lw_walk l b xs p e ha hc hk s m args below hf ((Spec.applies_iff_loose hf).mp happ).1 hP trivial
  exact ⟨k, o, h1, h2, h3, hQ⟩
theorem lw_frame {s t : State} {o : Outcome} {args : Array Value} (h : Framed s o t [] 600000 7290000) :
    Framed s o t (fieldLocs frame_1_writes args s ++ arrayLocs frame_1_arrays args s ++ staticLocs frame_1_statics s) 600000 7290000 := h
theorem lw_limb (L : Cond) (hL : ∀ (args : Array Value) (s t : State), L.after args s (.returned (some (.int 1))) t = true) :
    ArmFor flags0 classFile x code maxLocals ret World_1 tables_1 room_1 Calls_1 rest_1 Pre_1
      (fun tb e a s o t => postC L tb e a s o t ∧ Framed s o t (fieldLocs frame_1_writes a s ++ arrayLocs frame_1_arrays a s ++ staticLocs frame_1_statics s) 600000 7290000) := by
  intro l _ _ _ p e ha hc hk s m args below hf hfit hheap happ hpre
  obtain ⟨k, o, h1, h2, h3, rfl, hF⟩ := lw_comes l p e ha hc hk s m args below hf hfit hheap happ hpre
  exact ⟨k, _, h1, h2, h3, hL args s _, lw_frame hF⟩
theorem i_vc : Claimed_1_1 ∧ Claimed_1_2 := ⟨lw_limb limb_1_1 (fun args s t => by simp [limb_1_1, Cond.after, Cond.holds, Cond.value]), lw_limb limb_1_2 (fun args s t => Cond.after_iff.mpr (by
  first | (rw [show limb_1_2 = Cond.eq .result (.int 1) from rfl, Cond.eq_ints (x := 1) (y := 1) rfl rfl]; simp; done) | (simp [limb_1_2, Cond.value, Term.eval]; done)))⟩
end
