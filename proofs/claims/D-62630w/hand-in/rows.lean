section
/-- a private method of a class that the tables say can be made, by its rows of tables_1 -/
def lw_okq (q : MethodName × Nat) : Prop := (q.1.cls ≠ "java/lang/invoke/MethodHandle" ∧ q.1.cls ≠ "java/lang/invoke/VarHandle") ∧ Cond.instantiable q.1.cls q.2 ∈ tables_1 ∧ Cond.privateMethod q.1 ∈ tables_1 ∧ Cond.instanceMethod q.1 ∈ tables_1
set_option maxRecDepth 100000
theorem lw_t1 {w : Cond} (h : w ∈ tables_1_1) : w ∈ tables_1 := List.mem_append_left _ h
theorem lw_t2 {w : Cond} (h : w ∈ tables_1_2) : w ∈ tables_1 := List.mem_append_right _ h
theorem lw_p0 : lw_okq (⟨"MicroLc3", "fillFetchAndDecode", "()V"⟩, 11) := ⟨⟨by decide +kernel, by decide +kernel⟩, lw_t1 (List.mem_of_getElem? (i := 4) rfl), lw_t1 (List.mem_of_getElem? (i := 12) rfl), lw_t1 (List.mem_of_getElem? (i := 13) rfl)⟩
theorem lw_p1 : lw_okq (⟨"MicroLc3", "fillArithmetic", "()V"⟩, 11) := ⟨⟨by decide +kernel, by decide +kernel⟩, lw_t1 (List.mem_of_getElem? (i := 4) rfl), lw_t1 (List.mem_of_getElem? (i := 18) rfl), lw_t1 (List.mem_of_getElem? (i := 19) rfl)⟩
theorem lw_p2 : lw_okq (⟨"MicroLc3", "fillMemory", "()V"⟩, 11) := ⟨⟨by decide +kernel, by decide +kernel⟩, lw_t1 (List.mem_of_getElem? (i := 4) rfl), lw_t1 (List.mem_of_getElem? (i := 26) rfl), lw_t1 (List.mem_of_getElem? (i := 27) rfl)⟩
theorem lw_p3 : lw_okq (⟨"MicroLc3", "fillFlow", "()V"⟩, 11) := ⟨⟨by decide +kernel, by decide +kernel⟩, lw_t1 (List.mem_of_getElem? (i := 4) rfl), lw_t1 (List.mem_of_getElem? (i := 44) rfl), lw_t1 (List.mem_of_getElem? (i := 45) rfl)⟩
theorem lw_p4 : lw_okq (⟨"MicroLc3", "cycle", "()V"⟩, 11) := ⟨⟨by decide +kernel, by decide +kernel⟩, lw_t1 (List.mem_of_getElem? (i := 4) rfl), lw_t1 (List.mem_of_getElem? (i := 114) rfl), lw_t1 (List.mem_of_getElem? (i := 115) rfl)⟩
theorem lw_p5 : lw_okq (⟨"MicroLc3", "adderOutput", "(I)I"⟩, 11) := ⟨⟨by decide +kernel, by decide +kernel⟩, lw_t1 (List.mem_of_getElem? (i := 4) rfl), lw_t1 (List.mem_of_getElem? (i := 118) rfl), lw_t1 (List.mem_of_getElem? (i := 119) rfl)⟩
theorem lw_p6 : lw_okq (⟨"MicroLc3", "has", "(II)Z"⟩, 11) := ⟨⟨by decide +kernel, by decide +kernel⟩, lw_t1 (List.mem_of_getElem? (i := 4) rfl), lw_t1 (List.mem_of_getElem? (i := 123) rfl), lw_t1 (List.mem_of_getElem? (i := 124) rfl)⟩
theorem lw_p7 : lw_okq (⟨"MicroLc3", "firstSource", "(I)I"⟩, 11) := ⟨⟨by decide +kernel, by decide +kernel⟩, lw_t1 (List.mem_of_getElem? (i := 4) rfl), lw_t1 (List.mem_of_getElem? (i := 127) rfl), lw_t1 (List.mem_of_getElem? (i := 128) rfl)⟩
theorem lw_p8 : lw_okq (⟨"MicroLc3", "extended", "(II)I"⟩, 11) := ⟨⟨by decide +kernel, by decide +kernel⟩, lw_t1 (List.mem_of_getElem? (i := 4) rfl), lw_t1 (List.mem_of_getElem? (i := 134) rfl), lw_t1 (List.mem_of_getElem? (i := 135) rfl)⟩
theorem lw_p9 : lw_okq (⟨"MicroLc3", "busValue", "(II)I"⟩, 11) := ⟨⟨by decide +kernel, by decide +kernel⟩, lw_t1 (List.mem_of_getElem? (i := 4) rfl), lw_t1 (List.mem_of_getElem? (i := 139) rfl), lw_t1 (List.mem_of_getElem? (i := 140) rfl)⟩
theorem lw_p10 : lw_okq (⟨"MicroLc3", "aluOutput", "(I)I"⟩, 11) := ⟨⟨by decide +kernel, by decide +kernel⟩, lw_t1 (List.mem_of_getElem? (i := 4) rfl), lw_t1 (List.mem_of_getElem? (i := 146) rfl), lw_t1 (List.mem_of_getElem? (i := 147) rfl)⟩
theorem lw_p11 : lw_okq (⟨"MicroLc3", "pcInput", "(III)I"⟩, 11) := ⟨⟨by decide +kernel, by decide +kernel⟩, lw_t1 (List.mem_of_getElem? (i := 4) rfl), lw_t1 (List.mem_of_getElem? (i := 154) rfl), lw_t1 (List.mem_of_getElem? (i := 155) rfl)⟩
theorem lw_p12 : lw_okq (⟨"MicroLc3", "nextState", "(I)I"⟩, 11) := ⟨⟨by decide +kernel, by decide +kernel⟩, lw_t1 (List.mem_of_getElem? (i := 4) rfl), lw_t1 (List.mem_of_getElem? (i := 161) rfl), lw_t1 (List.mem_of_getElem? (i := 162) rfl)⟩
theorem lw_p13 : lw_okq (⟨"MicroLc3Model", "isWord", "(I)Z"⟩, 6) := ⟨⟨by decide +kernel, by decide +kernel⟩, lw_t1 (List.mem_of_getElem? (i := 186) rfl), lw_t1 (List.mem_of_getElem? (i := 215) rfl), lw_t1 (List.mem_of_getElem? (i := 216) rfl)⟩
theorem lw_p14 : lw_okq (⟨"MicroLc3Model", "execute", "()V"⟩, 6) := ⟨⟨by decide +kernel, by decide +kernel⟩, lw_t1 (List.mem_of_getElem? (i := 186) rfl), lw_t2 (List.mem_of_getElem? (i := 0) rfl), lw_t2 (List.mem_of_getElem? (i := 1) rfl)⟩
theorem lw_p15 : lw_okq (⟨"MicroLc3Model", "word", "(I)I"⟩, 6) := ⟨⟨by decide +kernel, by decide +kernel⟩, lw_t1 (List.mem_of_getElem? (i := 186) rfl), lw_t2 (List.mem_of_getElem? (i := 4) rfl), lw_t2 (List.mem_of_getElem? (i := 5) rfl)⟩
def lw_privs_1 : List (MethodName × Nat) := [(⟨"MicroLc3", "fillFetchAndDecode", "()V"⟩, 11), (⟨"MicroLc3", "fillArithmetic", "()V"⟩, 11), (⟨"MicroLc3", "fillMemory", "()V"⟩, 11), (⟨"MicroLc3", "fillFlow", "()V"⟩, 11), (⟨"MicroLc3", "cycle", "()V"⟩, 11), (⟨"MicroLc3", "adderOutput", "(I)I"⟩, 11), (⟨"MicroLc3", "has", "(II)Z"⟩, 11), (⟨"MicroLc3", "firstSource", "(I)I"⟩, 11), (⟨"MicroLc3", "extended", "(II)I"⟩, 11), (⟨"MicroLc3", "busValue", "(II)I"⟩, 11), (⟨"MicroLc3", "aluOutput", "(I)I"⟩, 11), (⟨"MicroLc3", "pcInput", "(III)I"⟩, 11), (⟨"MicroLc3", "nextState", "(I)I"⟩, 11), (⟨"MicroLc3Model", "isWord", "(I)Z"⟩, 6), (⟨"MicroLc3Model", "execute", "()V"⟩, 6), (⟨"MicroLc3Model", "word", "(I)I"⟩, 6)]
theorem lw_r1 : ∀ q ∈ lw_privs_1, lw_okq q := List.forall_mem_cons.mpr ⟨lw_p0, List.forall_mem_cons.mpr ⟨lw_p1, List.forall_mem_cons.mpr ⟨lw_p2, List.forall_mem_cons.mpr ⟨lw_p3, List.forall_mem_cons.mpr ⟨lw_p4, List.forall_mem_cons.mpr ⟨lw_p5, List.forall_mem_cons.mpr ⟨lw_p6, List.forall_mem_cons.mpr ⟨lw_p7, List.forall_mem_cons.mpr ⟨lw_p8, List.forall_mem_cons.mpr ⟨lw_p9, List.forall_mem_cons.mpr ⟨lw_p10, List.forall_mem_cons.mpr ⟨lw_p11, List.forall_mem_cons.mpr ⟨lw_p12, List.forall_mem_cons.mpr ⟨lw_p13, List.forall_mem_cons.mpr ⟨lw_p14, List.forall_mem_cons.mpr ⟨lw_p15, fun _ h => absurd h List.not_mem_nil⟩⟩⟩⟩⟩⟩⟩⟩⟩⟩⟩⟩⟩⟩⟩⟩
theorem lw_p16 : lw_okq (⟨"MicroLc3Model", "calculate", "(II)V"⟩, 6) := ⟨⟨by decide +kernel, by decide +kernel⟩, lw_t1 (List.mem_of_getElem? (i := 186) rfl), lw_t2 (List.mem_of_getElem? (i := 8) rfl), lw_t2 (List.mem_of_getElem? (i := 9) rfl)⟩
theorem lw_p17 : lw_okq (⟨"MicroLc3Model", "signed", "(II)I"⟩, 6) := ⟨⟨by decide +kernel, by decide +kernel⟩, lw_t1 (List.mem_of_getElem? (i := 186) rfl), lw_t2 (List.mem_of_getElem? (i := 12) rfl), lw_t2 (List.mem_of_getElem? (i := 13) rfl)⟩
theorem lw_p18 : lw_okq (⟨"MicroLc3Model", "give", "(II)V"⟩, 6) := ⟨⟨by decide +kernel, by decide +kernel⟩, lw_t1 (List.mem_of_getElem? (i := 186) rfl), lw_t2 (List.mem_of_getElem? (i := 16) rfl), lw_t2 (List.mem_of_getElem? (i := 17) rfl)⟩
theorem lw_p19 : lw_okq (⟨"MicroLc3Model", "move", "(II)V"⟩, 6) := ⟨⟨by decide +kernel, by decide +kernel⟩, lw_t1 (List.mem_of_getElem? (i := 186) rfl), lw_t2 (List.mem_of_getElem? (i := 20) rfl), lw_t2 (List.mem_of_getElem? (i := 21) rfl)⟩
theorem lw_p20 : lw_okq (⟨"MicroLc3Model", "go", "(II)V"⟩, 6) := ⟨⟨by decide +kernel, by decide +kernel⟩, lw_t1 (List.mem_of_getElem? (i := 186) rfl), lw_t2 (List.mem_of_getElem? (i := 24) rfl), lw_t2 (List.mem_of_getElem? (i := 25) rfl)⟩
theorem lw_p21 : lw_okq (⟨"MicroLc3Model", "taken", "(I)Z"⟩, 6) := ⟨⟨by decide +kernel, by decide +kernel⟩, lw_t1 (List.mem_of_getElem? (i := 186) rfl), lw_t2 (List.mem_of_getElem? (i := 28) rfl), lw_t2 (List.mem_of_getElem? (i := 29) rfl)⟩
def lw_privs_2 : List (MethodName × Nat) := [(⟨"MicroLc3Model", "calculate", "(II)V"⟩, 6), (⟨"MicroLc3Model", "signed", "(II)I"⟩, 6), (⟨"MicroLc3Model", "give", "(II)V"⟩, 6), (⟨"MicroLc3Model", "move", "(II)V"⟩, 6), (⟨"MicroLc3Model", "go", "(II)V"⟩, 6), (⟨"MicroLc3Model", "taken", "(I)Z"⟩, 6)]
theorem lw_r2 : ∀ q ∈ lw_privs_2, lw_okq q := List.forall_mem_cons.mpr ⟨lw_p16, List.forall_mem_cons.mpr ⟨lw_p17, List.forall_mem_cons.mpr ⟨lw_p18, List.forall_mem_cons.mpr ⟨lw_p19, List.forall_mem_cons.mpr ⟨lw_p20, List.forall_mem_cons.mpr ⟨lw_p21, fun _ h => absurd h List.not_mem_nil⟩⟩⟩⟩⟩⟩
def lw_privs : List (MethodName × Nat) := lw_privs_1 ++ (lw_privs_2)
def lw_tbl : List Cond := k2_sels lw_privs ++ tables_1
theorem lw_privs_ok : ∀ q ∈ lw_privs, lw_okq q := by
  show ∀ q ∈ lw_privs_1 ++ (lw_privs_2), lw_okq q
  exact List.forall_mem_append.mpr ⟨lw_r1, lw_r2⟩
def lw_all : List Cond := lw_tbl.filter goodWord
/-- a word of the tables by its place: claim/WORDS.tsv -/
theorem lw_w {w : Cond} (i : Nat) (h : lw_tbl[i]? = some w) (g : goodWord w = true) : w ∈ lw_all := List.mem_filter.mpr ⟨List.mem_of_getElem? h, g⟩
theorem lw_all_tbl {w : Cond} (h : w ∈ lw_all) : w ∈ lw_tbl := (List.mem_filter.mp h).1
theorem lw_self : GoodIn lw_all lw_all := fun w h => ⟨h, good_of_word (List.mem_filter.mp h).2⟩
/-- a class's field words, by their places -/
theorem lw_in (ws : List Cond) (ps : List Nat) (hp : ws = ps.filterMap (fun i => lw_tbl[i]?)) (hg : ws.all goodWord = true) : ∀ w ∈ ws, w ∈ lw_all := by
  intro w h
  have h1 := List.all_eq_true.mp hg w h
  rw [hp] at h
  obtain ⟨i, -, hi⟩ := List.mem_filterMap.mp h
  exact lw_w i hi h1
/-- the words of a contract for the method y with code b, L locals, answer r -/
abbrev ws_ (y : MethodName) (b : ByteArray) (L : Nat) (r : Option FieldType) : List Cond := Cond.code y b L r :: lw_all
theorem lw_meth {y : MethodName} {b : ByteArray} {L : Nat} {r : Option FieldType} (h : Cond.code y b L r ∈ lw_all) : GoodIn lw_all (ws_ y b L r) := by
  intro w hw
  rcases List.mem_cons.mp hw with e | e
  · rw [e]
    exact lw_self _ h
  · exact lw_self _ e
theorem lw_app {a c : List Cond} (ha : ∀ w ∈ a, w ∈ lw_all) (hc : GoodIn lw_all c) : GoodIn lw_all (a ++ c) := by
  intro w hw
  rcases List.mem_append.mp hw with e | e
  · exact lw_self w (ha w e)
  · exact hc w e
/-- what a call through an object asks: cwV n hts (lw_V ..) -/
theorem lw_V {own : String} {idx : Nat} {C : String} {y : MethodName} {b : ByteArray} {L : Nat} {r : Option FieldType} (h1 : Cond.methodLink own idx y ∈ lw_all) (h2 : Cond.instanceMethod y ∈ lw_all) (h3 : Cond.selects C y y ∈ lw_all) (h4 : Cond.initialized C ∈ lw_all) (h5 : Cond.code y b L r ∈ lw_all) : GoodIn lw_all (wsV own idx C y (ws_ y b L r)) := by
  refine lw_app ?_ (lw_meth h5)
  intro w hw
  simp only [List.mem_cons, List.not_mem_nil, or_false] at hw
  rcases hw with e | e | e | e
  · rw [e]; exact h1
  · rw [e]; exact h2
  · rw [e]; exact h3
  · rw [e]; exact h4
/-- what a static call asks: va_cwS n hts (lw_S ..) -/
theorem lw_S {own : String} {idx : Nat} {y : MethodName} {b : ByteArray} {L : Nat} {r : Option FieldType} (h1 : Cond.methodLink own idx y ∈ lw_all) (h2 : Cond.static y ∈ lw_all) (h3 : Cond.initialized y.cls ∈ lw_all) (h4 : Cond.code y b L r ∈ lw_all) : GoodIn lw_all (va_wsS own idx y (ws_ y b L r)) := by
  refine lw_app ?_ (lw_meth h4)
  intro w hw
  simp only [List.mem_cons, List.not_mem_nil, or_false] at hw
  rcases hw with e | e | e
  · rw [e]; exact h1
  · rw [e]; exact h2
  · rw [e]; exact h3
/-- the words of a contract for a method WITH HANDLERS (hh: its table) -/
abbrev wsW_ (y : MethodName) (b : ByteArray) (L : Nat) (r : Option FieldType) (hh : List (Nat × Nat × Nat × Nat)) : List Cond := Cond.codeWith y b L r hh :: lw_all
theorem lw_methW {y : MethodName} {b : ByteArray} {L : Nat} {r : Option FieldType} {hh : List (Nat × Nat × Nat × Nat)} (h : Cond.codeWith y b L r hh ∈ lw_all) : GoodIn lw_all (wsW_ y b L r hh) := by
  intro w hw
  rcases List.mem_cons.mp hw with e | e
  · rw [e]
    exact lw_self _ h
  · exact lw_self _ e
/-- any list of words by their places (lw_in), good -/
theorem lw_good {ws : List Cond} (h : ∀ w ∈ ws, w ∈ lw_all) : GoodIn lw_all ws := fun w hw => lw_self w (h w hw)
/-- what a call of a method with handlers asks: vx_cwVW n hts (lw_VW ..), vx_cwSW n hts (lw_SW ..) -/
theorem lw_VW {own : String} {idx : Nat} {C : String} {y : MethodName} {b : ByteArray} {L : Nat} {r : Option FieldType} {hh : List (Nat × Nat × Nat × Nat)} (h1 : Cond.methodLink own idx y ∈ lw_all) (h2 : Cond.instanceMethod y ∈ lw_all) (h3 : Cond.selects C y y ∈ lw_all) (h4 : Cond.initialized C ∈ lw_all) (h5 : Cond.codeWith y b L r hh ∈ lw_all) : GoodIn lw_all (wsV own idx C y (wsW_ y b L r hh)) := by
  refine lw_app ?_ (lw_methW h5)
  intro w hw
  simp only [List.mem_cons, List.not_mem_nil, or_false] at hw
  rcases hw with e | e | e | e
  · rw [e]; exact h1
  · rw [e]; exact h2
  · rw [e]; exact h3
  · rw [e]; exact h4
theorem lw_SW {own : String} {idx : Nat} {y : MethodName} {b : ByteArray} {L : Nat} {r : Option FieldType} {hh : List (Nat × Nat × Nat × Nat)} (h1 : Cond.methodLink own idx y ∈ lw_all) (h2 : Cond.static y ∈ lw_all) (h3 : Cond.initialized y.cls ∈ lw_all) (h4 : Cond.codeWith y b L r hh ∈ lw_all) : GoodIn lw_all (va_wsS own idx y (wsW_ y b L r hh)) := by
  refine lw_app ?_ (lw_methW h4)
  intro w hw
  simp only [List.mem_cons, List.not_mem_nil, or_false] at hw
  rcases hw with e | e | e
  · rw [e]; exact h1
  · rw [e]; exact h2
  · rw [e]; exact h3
/-- a word by its place in its run of the tables -/
theorem lw_at {r : List Cond} (hr : ∀ w ∈ r, w ∈ lw_tbl) {w : Cond} (i : Nat) (h : r[i]? = some w) : w ∈ lw_tbl := hr w (List.mem_of_getElem? h)
theorem lw_g {w : Cond} (h : w ∈ lw_tbl) (g : goodWord w = true) : w ∈ lw_all := List.mem_filter.mpr ⟨h, g⟩
theorem lw_ms : ∀ w ∈ k2_sels lw_privs, w ∈ lw_tbl := fun w h => show w ∈ k2_sels lw_privs ++ tables_1 from List.mem_append_left _ h
theorem lw_m1 : ∀ w ∈ tables_1_1, w ∈ lw_tbl := fun w h => show w ∈ k2_sels lw_privs ++ tables_1 from List.mem_append_right (k2_sels lw_privs) (show w ∈ tables_1 from List.mem_append_left _ h)
theorem lw_m2 : ∀ w ∈ tables_1_2, w ∈ lw_tbl := fun w h => show w ∈ k2_sels lw_privs ++ tables_1 from List.mem_append_right (k2_sels lw_privs) (show w ∈ tables_1 from List.mem_append_right _ h)
theorem qs0 : (Cond.selects "MicroLc3" ⟨"MicroLc3", "fillFetchAndDecode", "()V"⟩ ⟨"MicroLc3", "fillFetchAndDecode", "()V"⟩) ∈ lw_all := lw_g (lw_at lw_ms 0 rfl) rfl
theorem qs1 : (Cond.selects "MicroLc3" ⟨"MicroLc3", "fillArithmetic", "()V"⟩ ⟨"MicroLc3", "fillArithmetic", "()V"⟩) ∈ lw_all := lw_g (lw_at lw_ms 1 rfl) rfl
theorem qs2 : (Cond.selects "MicroLc3" ⟨"MicroLc3", "fillMemory", "()V"⟩ ⟨"MicroLc3", "fillMemory", "()V"⟩) ∈ lw_all := lw_g (lw_at lw_ms 2 rfl) rfl
theorem qs3 : (Cond.selects "MicroLc3" ⟨"MicroLc3", "fillFlow", "()V"⟩ ⟨"MicroLc3", "fillFlow", "()V"⟩) ∈ lw_all := lw_g (lw_at lw_ms 3 rfl) rfl
theorem qs4 : (Cond.selects "MicroLc3" ⟨"MicroLc3", "cycle", "()V"⟩ ⟨"MicroLc3", "cycle", "()V"⟩) ∈ lw_all := lw_g (lw_at lw_ms 4 rfl) rfl
theorem qs5 : (Cond.selects "MicroLc3" ⟨"MicroLc3", "adderOutput", "(I)I"⟩ ⟨"MicroLc3", "adderOutput", "(I)I"⟩) ∈ lw_all := lw_g (lw_at lw_ms 5 rfl) rfl
theorem qs6 : (Cond.selects "MicroLc3" ⟨"MicroLc3", "has", "(II)Z"⟩ ⟨"MicroLc3", "has", "(II)Z"⟩) ∈ lw_all := lw_g (lw_at lw_ms 6 rfl) rfl
theorem qs7 : (Cond.selects "MicroLc3" ⟨"MicroLc3", "firstSource", "(I)I"⟩ ⟨"MicroLc3", "firstSource", "(I)I"⟩) ∈ lw_all := lw_g (lw_at lw_ms 7 rfl) rfl
theorem qs8 : (Cond.selects "MicroLc3" ⟨"MicroLc3", "extended", "(II)I"⟩ ⟨"MicroLc3", "extended", "(II)I"⟩) ∈ lw_all := lw_g (lw_at lw_ms 8 rfl) rfl
theorem qs9 : (Cond.selects "MicroLc3" ⟨"MicroLc3", "busValue", "(II)I"⟩ ⟨"MicroLc3", "busValue", "(II)I"⟩) ∈ lw_all := lw_g (lw_at lw_ms 9 rfl) rfl
theorem qs10 : (Cond.selects "MicroLc3" ⟨"MicroLc3", "aluOutput", "(I)I"⟩ ⟨"MicroLc3", "aluOutput", "(I)I"⟩) ∈ lw_all := lw_g (lw_at lw_ms 10 rfl) rfl
theorem qs11 : (Cond.selects "MicroLc3" ⟨"MicroLc3", "pcInput", "(III)I"⟩ ⟨"MicroLc3", "pcInput", "(III)I"⟩) ∈ lw_all := lw_g (lw_at lw_ms 11 rfl) rfl
theorem qs12 : (Cond.selects "MicroLc3" ⟨"MicroLc3", "nextState", "(I)I"⟩ ⟨"MicroLc3", "nextState", "(I)I"⟩) ∈ lw_all := lw_g (lw_at lw_ms 12 rfl) rfl
theorem qs13 : (Cond.selects "MicroLc3Model" ⟨"MicroLc3Model", "isWord", "(I)Z"⟩ ⟨"MicroLc3Model", "isWord", "(I)Z"⟩) ∈ lw_all := lw_g (lw_at lw_ms 13 rfl) rfl
theorem qs14 : (Cond.selects "MicroLc3Model" ⟨"MicroLc3Model", "execute", "()V"⟩ ⟨"MicroLc3Model", "execute", "()V"⟩) ∈ lw_all := lw_g (lw_at lw_ms 14 rfl) rfl
theorem qs15 : (Cond.selects "MicroLc3Model" ⟨"MicroLc3Model", "word", "(I)I"⟩ ⟨"MicroLc3Model", "word", "(I)I"⟩) ∈ lw_all := lw_g (lw_at lw_ms 15 rfl) rfl
theorem qs16 : (Cond.selects "MicroLc3Model" ⟨"MicroLc3Model", "calculate", "(II)V"⟩ ⟨"MicroLc3Model", "calculate", "(II)V"⟩) ∈ lw_all := lw_g (lw_at lw_ms 16 rfl) rfl
theorem qs17 : (Cond.selects "MicroLc3Model" ⟨"MicroLc3Model", "signed", "(II)I"⟩ ⟨"MicroLc3Model", "signed", "(II)I"⟩) ∈ lw_all := lw_g (lw_at lw_ms 17 rfl) rfl
theorem qs18 : (Cond.selects "MicroLc3Model" ⟨"MicroLc3Model", "give", "(II)V"⟩ ⟨"MicroLc3Model", "give", "(II)V"⟩) ∈ lw_all := lw_g (lw_at lw_ms 18 rfl) rfl
theorem qs19 : (Cond.selects "MicroLc3Model" ⟨"MicroLc3Model", "move", "(II)V"⟩ ⟨"MicroLc3Model", "move", "(II)V"⟩) ∈ lw_all := lw_g (lw_at lw_ms 19 rfl) rfl
theorem qs20 : (Cond.selects "MicroLc3Model" ⟨"MicroLc3Model", "go", "(II)V"⟩ ⟨"MicroLc3Model", "go", "(II)V"⟩) ∈ lw_all := lw_g (lw_at lw_ms 20 rfl) rfl
theorem qs21 : (Cond.selects "MicroLc3Model" ⟨"MicroLc3Model", "taken", "(I)Z"⟩ ⟨"MicroLc3Model", "taken", "(I)Z"⟩) ∈ lw_all := lw_g (lw_at lw_ms 21 rfl) rfl
end
section
/-! MicroLc3 -/
set_option maxRecDepth 100000
def RX0 : String := "MicroLc3"
def TX0 : u_T := fun k => match k with
  | 0 => ("MicroLc3", "control", "[I", true)
  | 1 => ("MicroLc3", "memory", "[I", true)
  | 2 => ("MicroLc3", "registers", "[I", true)
  | 3 => ("MicroLc3", "pc", "I", false)
  | 4 => ("MicroLc3", "signBits", "I", false)
  | 5 => ("MicroLc3", "statusNow", "I", false)
  | 6 => ("MicroLc3", "executed", "I", false)
  | 7 => ("MicroLc3", "state", "I", false)
  | 8 => ("MicroLc3", "mar", "I", false)
  | 9 => ("MicroLc3", "mdr", "I", false)
  | _ => ("MicroLc3", "ir", "I", false)
def tyX0 : Nat → FieldType := fun k => match k with
  | 0 => .array .int
  | 1 => .array .int
  | 2 => .array .int
  | 3 => .int
  | 4 => .int
  | 5 => .int
  | 6 => .int
  | 7 => .int
  | 8 => .int
  | 9 => .int
  | _ => .int
abbrev wsX00 : List Cond := u_ws RX0 TX0 11
theorem nmX0 : ∀ a, a < 11 → ∀ b, b < 11 → a ≠ b → (TX0 a).2.1 ≠ (TX0 b).2.1 := by decide +kernel
theorem tyX0_ok : ∀ k, k < 11 → parseFieldDescriptor (TX0 k).2.2.1 = some (tyX0 k) := by decide +kernel
abbrev cX0_init : ByteArray := prog_1_method_1_code
def yX0_init : MethodName := ⟨RX0, "<init>", "()V"⟩
theorem dX0_init_0 : decode cX0_init 0 = .ok (.aload_n 0, 1) := by decide +kernel
theorem dX0_init_1 : decode cX0_init 1 = .ok (.invokespecial 1, 3) := by decide +kernel
theorem dX0_init_4 : decode cX0_init 4 = .ok (.aload_n 0, 1) := by decide +kernel
theorem dX0_init_5 : decode cX0_init 5 = .ok (.bipush 64, 2) := by decide +kernel
theorem dX0_init_7 : decode cX0_init 7 = .ok (.newarray .int, 2) := by decide +kernel
theorem dX0_init_9 : decode cX0_init 9 = .ok (.putfield 7, 3) := by decide +kernel
theorem dX0_init_12 : decode cX0_init 12 = .ok (.aload_n 0, 1) := by decide +kernel
theorem dX0_init_13 : decode cX0_init 13 = .ok (.bipush 64, 2) := by decide +kernel
theorem dX0_init_15 : decode cX0_init 15 = .ok (.newarray .int, 2) := by decide +kernel
theorem dX0_init_17 : decode cX0_init 17 = .ok (.putfield 13, 3) := by decide +kernel
theorem dX0_init_20 : decode cX0_init 20 = .ok (.aload_n 0, 1) := by decide +kernel
theorem dX0_init_21 : decode cX0_init 21 = .ok (.bipush 8, 2) := by decide +kernel
theorem dX0_init_23 : decode cX0_init 23 = .ok (.newarray .int, 2) := by decide +kernel
theorem dX0_init_25 : decode cX0_init 25 = .ok (.putfield 16, 3) := by decide +kernel
theorem dX0_init_28 : decode cX0_init 28 = .ok (.aload_n 0, 1) := by decide +kernel
theorem dX0_init_29 : decode cX0_init 29 = .ok (.iconst 2, 1) := by decide +kernel
theorem dX0_init_30 : decode cX0_init 30 = .ok (.putfield 19, 3) := by decide +kernel
theorem dX0_init_33 : decode cX0_init 33 = .ok (.aload_n 0, 1) := by decide +kernel
theorem dX0_init_34 : decode cX0_init 34 = .ok (.bipush 18, 2) := by decide +kernel
theorem dX0_init_36 : decode cX0_init 36 = .ok (.putfield 23, 3) := by decide +kernel
theorem dX0_init_39 : decode cX0_init 39 = .ok (.aload_n 0, 1) := by decide +kernel
theorem dX0_init_40 : decode cX0_init 40 = .ok (.invokevirtual 26, 3) := by decide +kernel
theorem dX0_init_43 : decode cX0_init 43 = .ok (.aload_n 0, 1) := by decide +kernel
theorem dX0_init_44 : decode cX0_init 44 = .ok (.invokevirtual 29, 3) := by decide +kernel
theorem dX0_init_47 : decode cX0_init 47 = .ok (.aload_n 0, 1) := by decide +kernel
theorem dX0_init_48 : decode cX0_init 48 = .ok (.invokevirtual 32, 3) := by decide +kernel
theorem dX0_init_51 : decode cX0_init 51 = .ok (.aload_n 0, 1) := by decide +kernel
theorem dX0_init_52 : decode cX0_init 52 = .ok (.invokevirtual 35, 3) := by decide +kernel
theorem dX0_init_55 : decode cX0_init 55 = .ok (.return_, 1) := by decide +kernel
abbrev cX0_fillFetchAndDecode : ByteArray := prog_1_method_2_code
def yX0_fillFetchAndDecode : MethodName := ⟨RX0, "fillFetchAndDecode", "()V"⟩
theorem dX0_fillFetchAndDecode_0 : decode cX0_fillFetchAndDecode 0 = .ok (.aload_n 0, 1) := by decide +kernel
theorem dX0_fillFetchAndDecode_1 : decode cX0_fillFetchAndDecode 1 = .ok (.getfield 7, 3) := by decide +kernel
theorem dX0_fillFetchAndDecode_4 : decode cX0_fillFetchAndDecode 4 = .ok (.bipush 18, 2) := by decide +kernel
theorem dX0_fillFetchAndDecode_6 : decode cX0_fillFetchAndDecode 6 = .ok (.sipush 18721, 3) := by decide +kernel
theorem dX0_fillFetchAndDecode_9 : decode cX0_fillFetchAndDecode 9 = .ok (.iastore, 1) := by decide +kernel
theorem dX0_fillFetchAndDecode_10 : decode cX0_fillFetchAndDecode 10 = .ok (.aload_n 0, 1) := by decide +kernel
theorem dX0_fillFetchAndDecode_11 : decode cX0_fillFetchAndDecode 11 = .ok (.getfield 7, 3) := by decide +kernel
theorem dX0_fillFetchAndDecode_14 : decode cX0_fillFetchAndDecode 14 = .ok (.bipush 33, 2) := by decide +kernel
theorem dX0_fillFetchAndDecode_16 : decode cX0_fillFetchAndDecode 16 = .ok (.ldc 38, 2) := by decide +kernel
theorem dX0_fillFetchAndDecode_18 : decode cX0_fillFetchAndDecode 18 = .ok (.iastore, 1) := by decide +kernel
theorem dX0_fillFetchAndDecode_19 : decode cX0_fillFetchAndDecode 19 = .ok (.aload_n 0, 1) := by decide +kernel
theorem dX0_fillFetchAndDecode_20 : decode cX0_fillFetchAndDecode 20 = .ok (.getfield 7, 3) := by decide +kernel
theorem dX0_fillFetchAndDecode_23 : decode cX0_fillFetchAndDecode 23 = .ok (.bipush 35, 2) := by decide +kernel
theorem dX0_fillFetchAndDecode_25 : decode cX0_fillFetchAndDecode 25 = .ok (.ldc 39, 2) := by decide +kernel
theorem dX0_fillFetchAndDecode_27 : decode cX0_fillFetchAndDecode 27 = .ok (.iastore, 1) := by decide +kernel
theorem dX0_fillFetchAndDecode_28 : decode cX0_fillFetchAndDecode 28 = .ok (.aload_n 0, 1) := by decide +kernel
theorem dX0_fillFetchAndDecode_29 : decode cX0_fillFetchAndDecode 29 = .ok (.getfield 7, 3) := by decide +kernel
theorem dX0_fillFetchAndDecode_32 : decode cX0_fillFetchAndDecode 32 = .ok (.bipush 32, 2) := by decide +kernel
theorem dX0_fillFetchAndDecode_34 : decode cX0_fillFetchAndDecode 34 = .ok (.bipush 64, 2) := by decide +kernel
theorem dX0_fillFetchAndDecode_36 : decode cX0_fillFetchAndDecode 36 = .ok (.iastore, 1) := by decide +kernel
theorem dX0_fillFetchAndDecode_37 : decode cX0_fillFetchAndDecode 37 = .ok (.return_, 1) := by decide +kernel
abbrev cX0_fillArithmetic : ByteArray := prog_1_method_3_code
def yX0_fillArithmetic : MethodName := ⟨RX0, "fillArithmetic", "()V"⟩
theorem dX0_fillArithmetic_0 : decode cX0_fillArithmetic 0 = .ok (.aload_n 0, 1) := by decide +kernel
theorem dX0_fillArithmetic_1 : decode cX0_fillArithmetic 1 = .ok (.getfield 7, 3) := by decide +kernel
theorem dX0_fillArithmetic_4 : decode cX0_fillArithmetic 4 = .ok (.iconst 1, 1) := by decide +kernel
theorem dX0_fillArithmetic_5 : decode cX0_fillArithmetic 5 = .ok (.ldc 40, 2) := by decide +kernel
theorem dX0_fillArithmetic_7 : decode cX0_fillArithmetic 7 = .ok (.iastore, 1) := by decide +kernel
theorem dX0_fillArithmetic_8 : decode cX0_fillArithmetic 8 = .ok (.aload_n 0, 1) := by decide +kernel
theorem dX0_fillArithmetic_9 : decode cX0_fillArithmetic 9 = .ok (.getfield 7, 3) := by decide +kernel
theorem dX0_fillArithmetic_12 : decode cX0_fillArithmetic 12 = .ok (.iconst 5, 1) := by decide +kernel
theorem dX0_fillArithmetic_13 : decode cX0_fillArithmetic 13 = .ok (.ldc 41, 2) := by decide +kernel
theorem dX0_fillArithmetic_15 : decode cX0_fillArithmetic 15 = .ok (.iastore, 1) := by decide +kernel
theorem dX0_fillArithmetic_16 : decode cX0_fillArithmetic 16 = .ok (.aload_n 0, 1) := by decide +kernel
theorem dX0_fillArithmetic_17 : decode cX0_fillArithmetic 17 = .ok (.getfield 7, 3) := by decide +kernel
theorem dX0_fillArithmetic_20 : decode cX0_fillArithmetic 20 = .ok (.bipush 9, 2) := by decide +kernel
theorem dX0_fillArithmetic_22 : decode cX0_fillArithmetic 22 = .ok (.ldc 42, 2) := by decide +kernel
theorem dX0_fillArithmetic_24 : decode cX0_fillArithmetic 24 = .ok (.iastore, 1) := by decide +kernel
theorem dX0_fillArithmetic_25 : decode cX0_fillArithmetic 25 = .ok (.aload_n 0, 1) := by decide +kernel
theorem dX0_fillArithmetic_26 : decode cX0_fillArithmetic 26 = .ok (.getfield 7, 3) := by decide +kernel
theorem dX0_fillArithmetic_29 : decode cX0_fillArithmetic 29 = .ok (.bipush 14, 2) := by decide +kernel
theorem dX0_fillArithmetic_31 : decode cX0_fillArithmetic 31 = .ok (.ldc 43, 2) := by decide +kernel
theorem dX0_fillArithmetic_33 : decode cX0_fillArithmetic 33 = .ok (.iastore, 1) := by decide +kernel
theorem dX0_fillArithmetic_34 : decode cX0_fillArithmetic 34 = .ok (.return_, 1) := by decide +kernel
abbrev cX0_fillMemory : ByteArray := prog_1_method_4_code
def yX0_fillMemory : MethodName := ⟨RX0, "fillMemory", "()V"⟩
theorem dX0_fillMemory_0 : decode cX0_fillMemory 0 = .ok (.aload_n 0, 1) := by decide +kernel
theorem dX0_fillMemory_1 : decode cX0_fillMemory 1 = .ok (.getfield 7, 3) := by decide +kernel
theorem dX0_fillMemory_4 : decode cX0_fillMemory 4 = .ok (.iconst 2, 1) := by decide +kernel
theorem dX0_fillMemory_5 : decode cX0_fillMemory 5 = .ok (.ldc 44, 2) := by decide +kernel
theorem dX0_fillMemory_7 : decode cX0_fillMemory 7 = .ok (.iastore, 1) := by decide +kernel
theorem dX0_fillMemory_8 : decode cX0_fillMemory 8 = .ok (.aload_n 0, 1) := by decide +kernel
theorem dX0_fillMemory_9 : decode cX0_fillMemory 9 = .ok (.getfield 7, 3) := by decide +kernel
theorem dX0_fillMemory_12 : decode cX0_fillMemory 12 = .ok (.bipush 6, 2) := by decide +kernel
theorem dX0_fillMemory_14 : decode cX0_fillMemory 14 = .ok (.ldc 45, 2) := by decide +kernel
theorem dX0_fillMemory_16 : decode cX0_fillMemory 16 = .ok (.iastore, 1) := by decide +kernel
theorem dX0_fillMemory_17 : decode cX0_fillMemory 17 = .ok (.aload_n 0, 1) := by decide +kernel
theorem dX0_fillMemory_18 : decode cX0_fillMemory 18 = .ok (.getfield 7, 3) := by decide +kernel
theorem dX0_fillMemory_21 : decode cX0_fillMemory 21 = .ok (.bipush 10, 2) := by decide +kernel
theorem dX0_fillMemory_23 : decode cX0_fillMemory 23 = .ok (.ldc 46, 2) := by decide +kernel
theorem dX0_fillMemory_25 : decode cX0_fillMemory 25 = .ok (.iastore, 1) := by decide +kernel
theorem dX0_fillMemory_26 : decode cX0_fillMemory 26 = .ok (.aload_n 0, 1) := by decide +kernel
theorem dX0_fillMemory_27 : decode cX0_fillMemory 27 = .ok (.getfield 7, 3) := by decide +kernel
theorem dX0_fillMemory_30 : decode cX0_fillMemory 30 = .ok (.bipush 24, 2) := by decide +kernel
theorem dX0_fillMemory_32 : decode cX0_fillMemory 32 = .ok (.ldc 47, 2) := by decide +kernel
theorem dX0_fillMemory_34 : decode cX0_fillMemory 34 = .ok (.iastore, 1) := by decide +kernel
theorem dX0_fillMemory_35 : decode cX0_fillMemory 35 = .ok (.aload_n 0, 1) := by decide +kernel
theorem dX0_fillMemory_36 : decode cX0_fillMemory 36 = .ok (.getfield 7, 3) := by decide +kernel
theorem dX0_fillMemory_39 : decode cX0_fillMemory 39 = .ok (.bipush 26, 2) := by decide +kernel
theorem dX0_fillMemory_41 : decode cX0_fillMemory 41 = .ok (.ldc 48, 2) := by decide +kernel
theorem dX0_fillMemory_43 : decode cX0_fillMemory 43 = .ok (.iastore, 1) := by decide +kernel
theorem dX0_fillMemory_44 : decode cX0_fillMemory 44 = .ok (.aload_n 0, 1) := by decide +kernel
theorem dX0_fillMemory_45 : decode cX0_fillMemory 45 = .ok (.getfield 7, 3) := by decide +kernel
theorem dX0_fillMemory_48 : decode cX0_fillMemory 48 = .ok (.bipush 25, 2) := by decide +kernel
theorem dX0_fillMemory_50 : decode cX0_fillMemory 50 = .ok (.ldc 49, 2) := by decide +kernel
theorem dX0_fillMemory_52 : decode cX0_fillMemory 52 = .ok (.iastore, 1) := by decide +kernel
theorem dX0_fillMemory_53 : decode cX0_fillMemory 53 = .ok (.aload_n 0, 1) := by decide +kernel
theorem dX0_fillMemory_54 : decode cX0_fillMemory 54 = .ok (.getfield 7, 3) := by decide +kernel
theorem dX0_fillMemory_57 : decode cX0_fillMemory 57 = .ok (.bipush 27, 2) := by decide +kernel
theorem dX0_fillMemory_59 : decode cX0_fillMemory 59 = .ok (.ldc 50, 2) := by decide +kernel
theorem dX0_fillMemory_61 : decode cX0_fillMemory 61 = .ok (.iastore, 1) := by decide +kernel
theorem dX0_fillMemory_62 : decode cX0_fillMemory 62 = .ok (.aload_n 0, 1) := by decide +kernel
theorem dX0_fillMemory_63 : decode cX0_fillMemory 63 = .ok (.getfield 7, 3) := by decide +kernel
theorem dX0_fillMemory_66 : decode cX0_fillMemory 66 = .ok (.iconst 3, 1) := by decide +kernel
theorem dX0_fillMemory_67 : decode cX0_fillMemory 67 = .ok (.ldc 51, 2) := by decide +kernel
theorem dX0_fillMemory_69 : decode cX0_fillMemory 69 = .ok (.iastore, 1) := by decide +kernel
theorem dX0_fillMemory_70 : decode cX0_fillMemory 70 = .ok (.aload_n 0, 1) := by decide +kernel
theorem dX0_fillMemory_71 : decode cX0_fillMemory 71 = .ok (.getfield 7, 3) := by decide +kernel
theorem dX0_fillMemory_74 : decode cX0_fillMemory 74 = .ok (.bipush 7, 2) := by decide +kernel
theorem dX0_fillMemory_76 : decode cX0_fillMemory 76 = .ok (.ldc 52, 2) := by decide +kernel
theorem dX0_fillMemory_78 : decode cX0_fillMemory 78 = .ok (.iastore, 1) := by decide +kernel
theorem dX0_fillMemory_79 : decode cX0_fillMemory 79 = .ok (.aload_n 0, 1) := by decide +kernel
theorem dX0_fillMemory_80 : decode cX0_fillMemory 80 = .ok (.getfield 7, 3) := by decide +kernel
theorem dX0_fillMemory_83 : decode cX0_fillMemory 83 = .ok (.bipush 11, 2) := by decide +kernel
theorem dX0_fillMemory_85 : decode cX0_fillMemory 85 = .ok (.ldc 53, 2) := by decide +kernel
theorem dX0_fillMemory_87 : decode cX0_fillMemory 87 = .ok (.iastore, 1) := by decide +kernel
theorem dX0_fillMemory_88 : decode cX0_fillMemory 88 = .ok (.aload_n 0, 1) := by decide +kernel
theorem dX0_fillMemory_89 : decode cX0_fillMemory 89 = .ok (.getfield 7, 3) := by decide +kernel
theorem dX0_fillMemory_92 : decode cX0_fillMemory 92 = .ok (.bipush 29, 2) := by decide +kernel
theorem dX0_fillMemory_94 : decode cX0_fillMemory 94 = .ok (.ldc 54, 2) := by decide +kernel
theorem dX0_fillMemory_96 : decode cX0_fillMemory 96 = .ok (.iastore, 1) := by decide +kernel
theorem dX0_fillMemory_97 : decode cX0_fillMemory 97 = .ok (.aload_n 0, 1) := by decide +kernel
theorem dX0_fillMemory_98 : decode cX0_fillMemory 98 = .ok (.getfield 7, 3) := by decide +kernel
theorem dX0_fillMemory_101 : decode cX0_fillMemory 101 = .ok (.bipush 31, 2) := by decide +kernel
theorem dX0_fillMemory_103 : decode cX0_fillMemory 103 = .ok (.ldc 55, 2) := by decide +kernel
theorem dX0_fillMemory_105 : decode cX0_fillMemory 105 = .ok (.iastore, 1) := by decide +kernel
theorem dX0_fillMemory_106 : decode cX0_fillMemory 106 = .ok (.aload_n 0, 1) := by decide +kernel
theorem dX0_fillMemory_107 : decode cX0_fillMemory 107 = .ok (.getfield 7, 3) := by decide +kernel
theorem dX0_fillMemory_110 : decode cX0_fillMemory 110 = .ok (.bipush 23, 2) := by decide +kernel
theorem dX0_fillMemory_112 : decode cX0_fillMemory 112 = .ok (.ldc 56, 2) := by decide +kernel
theorem dX0_fillMemory_114 : decode cX0_fillMemory 114 = .ok (.iastore, 1) := by decide +kernel
theorem dX0_fillMemory_115 : decode cX0_fillMemory 115 = .ok (.aload_n 0, 1) := by decide +kernel
theorem dX0_fillMemory_116 : decode cX0_fillMemory 116 = .ok (.getfield 7, 3) := by decide +kernel
theorem dX0_fillMemory_119 : decode cX0_fillMemory 119 = .ok (.bipush 16, 2) := by decide +kernel
theorem dX0_fillMemory_121 : decode cX0_fillMemory 121 = .ok (.ldc 57, 2) := by decide +kernel
theorem dX0_fillMemory_123 : decode cX0_fillMemory 123 = .ok (.iastore, 1) := by decide +kernel
theorem dX0_fillMemory_124 : decode cX0_fillMemory 124 = .ok (.return_, 1) := by decide +kernel
abbrev cX0_fillFlow : ByteArray := prog_1_method_5_code
def yX0_fillFlow : MethodName := ⟨RX0, "fillFlow", "()V"⟩
theorem dX0_fillFlow_0 : decode cX0_fillFlow 0 = .ok (.aload_n 0, 1) := by decide +kernel
theorem dX0_fillFlow_1 : decode cX0_fillFlow 1 = .ok (.getfield 7, 3) := by decide +kernel
theorem dX0_fillFlow_4 : decode cX0_fillFlow 4 = .ok (.iconst 0, 1) := by decide +kernel
theorem dX0_fillFlow_5 : decode cX0_fillFlow 5 = .ok (.sipush 146, 3) := by decide +kernel
theorem dX0_fillFlow_8 : decode cX0_fillFlow 8 = .ok (.iastore, 1) := by decide +kernel
theorem dX0_fillFlow_9 : decode cX0_fillFlow 9 = .ok (.aload_n 0, 1) := by decide +kernel
theorem dX0_fillFlow_10 : decode cX0_fillFlow 10 = .ok (.getfield 7, 3) := by decide +kernel
theorem dX0_fillFlow_13 : decode cX0_fillFlow 13 = .ok (.bipush 22, 2) := by decide +kernel
theorem dX0_fillFlow_15 : decode cX0_fillFlow 15 = .ok (.ldc 58, 2) := by decide +kernel
theorem dX0_fillFlow_17 : decode cX0_fillFlow 17 = .ok (.iastore, 1) := by decide +kernel
theorem dX0_fillFlow_18 : decode cX0_fillFlow 18 = .ok (.aload_n 0, 1) := by decide +kernel
theorem dX0_fillFlow_19 : decode cX0_fillFlow 19 = .ok (.getfield 7, 3) := by decide +kernel
theorem dX0_fillFlow_22 : decode cX0_fillFlow 22 = .ok (.bipush 12, 2) := by decide +kernel
theorem dX0_fillFlow_24 : decode cX0_fillFlow 24 = .ok (.ldc 59, 2) := by decide +kernel
theorem dX0_fillFlow_26 : decode cX0_fillFlow 26 = .ok (.iastore, 1) := by decide +kernel
theorem dX0_fillFlow_27 : decode cX0_fillFlow 27 = .ok (.aload_n 0, 1) := by decide +kernel
theorem dX0_fillFlow_28 : decode cX0_fillFlow 28 = .ok (.getfield 7, 3) := by decide +kernel
theorem dX0_fillFlow_31 : decode cX0_fillFlow 31 = .ok (.iconst 4, 1) := by decide +kernel
theorem dX0_fillFlow_32 : decode cX0_fillFlow 32 = .ok (.sipush 212, 3) := by decide +kernel
theorem dX0_fillFlow_35 : decode cX0_fillFlow 35 = .ok (.iastore, 1) := by decide +kernel
theorem dX0_fillFlow_36 : decode cX0_fillFlow 36 = .ok (.aload_n 0, 1) := by decide +kernel
theorem dX0_fillFlow_37 : decode cX0_fillFlow 37 = .ok (.getfield 7, 3) := by decide +kernel
theorem dX0_fillFlow_40 : decode cX0_fillFlow 40 = .ok (.bipush 20, 2) := by decide +kernel
theorem dX0_fillFlow_42 : decode cX0_fillFlow 42 = .ok (.ldc 60, 2) := by decide +kernel
theorem dX0_fillFlow_44 : decode cX0_fillFlow 44 = .ok (.iastore, 1) := by decide +kernel
theorem dX0_fillFlow_45 : decode cX0_fillFlow 45 = .ok (.aload_n 0, 1) := by decide +kernel
theorem dX0_fillFlow_46 : decode cX0_fillFlow 46 = .ok (.getfield 7, 3) := by decide +kernel
theorem dX0_fillFlow_49 : decode cX0_fillFlow 49 = .ok (.bipush 21, 2) := by decide +kernel
theorem dX0_fillFlow_51 : decode cX0_fillFlow 51 = .ok (.ldc 61, 2) := by decide +kernel
theorem dX0_fillFlow_53 : decode cX0_fillFlow 53 = .ok (.iastore, 1) := by decide +kernel
theorem dX0_fillFlow_54 : decode cX0_fillFlow 54 = .ok (.aload_n 0, 1) := by decide +kernel
theorem dX0_fillFlow_55 : decode cX0_fillFlow 55 = .ok (.getfield 7, 3) := by decide +kernel
theorem dX0_fillFlow_58 : decode cX0_fillFlow 58 = .ok (.bipush 15, 2) := by decide +kernel
theorem dX0_fillFlow_60 : decode cX0_fillFlow 60 = .ok (.ldc 62, 2) := by decide +kernel
theorem dX0_fillFlow_62 : decode cX0_fillFlow 62 = .ok (.iastore, 1) := by decide +kernel
theorem dX0_fillFlow_63 : decode cX0_fillFlow 63 = .ok (.aload_n 0, 1) := by decide +kernel
theorem dX0_fillFlow_64 : decode cX0_fillFlow 64 = .ok (.getfield 7, 3) := by decide +kernel
theorem dX0_fillFlow_67 : decode cX0_fillFlow 67 = .ok (.bipush 8, 2) := by decide +kernel
theorem dX0_fillFlow_69 : decode cX0_fillFlow 69 = .ok (.ldc 63, 2) := by decide +kernel
theorem dX0_fillFlow_71 : decode cX0_fillFlow 71 = .ok (.iastore, 1) := by decide +kernel
theorem dX0_fillFlow_72 : decode cX0_fillFlow 72 = .ok (.aload_n 0, 1) := by decide +kernel
theorem dX0_fillFlow_73 : decode cX0_fillFlow 73 = .ok (.getfield 7, 3) := by decide +kernel
theorem dX0_fillFlow_76 : decode cX0_fillFlow 76 = .ok (.bipush 13, 2) := by decide +kernel
theorem dX0_fillFlow_78 : decode cX0_fillFlow 78 = .ok (.ldc 63, 2) := by decide +kernel
theorem dX0_fillFlow_80 : decode cX0_fillFlow 80 = .ok (.iastore, 1) := by decide +kernel
theorem dX0_fillFlow_81 : decode cX0_fillFlow 81 = .ok (.return_, 1) := by decide +kernel
abbrev cX0_poke : ByteArray := prog_1_method_6_code
def yX0_poke : MethodName := ⟨RX0, "poke", "(II)Z"⟩
theorem dX0_poke_0 : decode cX0_poke 0 = .ok (.iload_n 1, 1) := by decide +kernel
theorem dX0_poke_1 : decode cX0_poke 1 = .ok (.ifCond .lt 19, 3) := by decide +kernel
theorem dX0_poke_4 : decode cX0_poke 4 = .ok (.iload_n 1, 1) := by decide +kernel
theorem dX0_poke_5 : decode cX0_poke 5 = .ok (.bipush 63, 2) := by decide +kernel
theorem dX0_poke_7 : decode cX0_poke 7 = .ok (.if_icmp .gt 13, 3) := by decide +kernel
theorem dX0_poke_10 : decode cX0_poke 10 = .ok (.iload_n 2, 1) := by decide +kernel
theorem dX0_poke_11 : decode cX0_poke 11 = .ok (.ifCond .lt 9, 3) := by decide +kernel
theorem dX0_poke_14 : decode cX0_poke 14 = .ok (.iload_n 2, 1) := by decide +kernel
theorem dX0_poke_15 : decode cX0_poke 15 = .ok (.ldc 64, 2) := by decide +kernel
theorem dX0_poke_17 : decode cX0_poke 17 = .ok (.if_icmp .le 5, 3) := by decide +kernel
theorem dX0_poke_20 : decode cX0_poke 20 = .ok (.iconst 0, 1) := by decide +kernel
theorem dX0_poke_21 : decode cX0_poke 21 = .ok (.ireturn, 1) := by decide +kernel
theorem dX0_poke_22 : decode cX0_poke 22 = .ok (.aload_n 0, 1) := by decide +kernel
theorem dX0_poke_23 : decode cX0_poke 23 = .ok (.getfield 13, 3) := by decide +kernel
theorem dX0_poke_26 : decode cX0_poke 26 = .ok (.iload_n 1, 1) := by decide +kernel
theorem dX0_poke_27 : decode cX0_poke 27 = .ok (.iload_n 2, 1) := by decide +kernel
theorem dX0_poke_28 : decode cX0_poke 28 = .ok (.iastore, 1) := by decide +kernel
theorem dX0_poke_29 : decode cX0_poke 29 = .ok (.iconst 1, 1) := by decide +kernel
theorem dX0_poke_30 : decode cX0_poke 30 = .ok (.ireturn, 1) := by decide +kernel
abbrev cX0_peek : ByteArray := prog_1_method_7_code
def yX0_peek : MethodName := ⟨RX0, "peek", "(I)I"⟩
theorem dX0_peek_0 : decode cX0_peek 0 = .ok (.iload_n 1, 1) := by decide +kernel
theorem dX0_peek_1 : decode cX0_peek 1 = .ok (.ifCond .lt 9, 3) := by decide +kernel
theorem dX0_peek_4 : decode cX0_peek 4 = .ok (.iload_n 1, 1) := by decide +kernel
theorem dX0_peek_5 : decode cX0_peek 5 = .ok (.bipush 63, 2) := by decide +kernel
theorem dX0_peek_7 : decode cX0_peek 7 = .ok (.if_icmp .le 7, 3) := by decide +kernel
theorem dX0_peek_10 : decode cX0_peek 10 = .ok (.iconst (-1), 1) := by decide +kernel
theorem dX0_peek_11 : decode cX0_peek 11 = .ok (.goto 9, 3) := by decide +kernel
theorem dX0_peek_14 : decode cX0_peek 14 = .ok (.aload_n 0, 1) := by decide +kernel
theorem dX0_peek_15 : decode cX0_peek 15 = .ok (.getfield 13, 3) := by decide +kernel
theorem dX0_peek_18 : decode cX0_peek 18 = .ok (.iload_n 1, 1) := by decide +kernel
theorem dX0_peek_19 : decode cX0_peek 19 = .ok (.iaload, 1) := by decide +kernel
theorem dX0_peek_20 : decode cX0_peek 20 = .ok (.ireturn, 1) := by decide +kernel
abbrev cX0_setRegister : ByteArray := prog_1_method_8_code
def yX0_setRegister : MethodName := ⟨RX0, "setRegister", "(II)Z"⟩
theorem dX0_setRegister_0 : decode cX0_setRegister 0 = .ok (.iload_n 1, 1) := by decide +kernel
theorem dX0_setRegister_1 : decode cX0_setRegister 1 = .ok (.ifCond .lt 19, 3) := by decide +kernel
theorem dX0_setRegister_4 : decode cX0_setRegister 4 = .ok (.iload_n 1, 1) := by decide +kernel
theorem dX0_setRegister_5 : decode cX0_setRegister 5 = .ok (.bipush 7, 2) := by decide +kernel
theorem dX0_setRegister_7 : decode cX0_setRegister 7 = .ok (.if_icmp .gt 13, 3) := by decide +kernel
theorem dX0_setRegister_10 : decode cX0_setRegister 10 = .ok (.iload_n 2, 1) := by decide +kernel
theorem dX0_setRegister_11 : decode cX0_setRegister 11 = .ok (.ifCond .lt 9, 3) := by decide +kernel
theorem dX0_setRegister_14 : decode cX0_setRegister 14 = .ok (.iload_n 2, 1) := by decide +kernel
theorem dX0_setRegister_15 : decode cX0_setRegister 15 = .ok (.ldc 64, 2) := by decide +kernel
theorem dX0_setRegister_17 : decode cX0_setRegister 17 = .ok (.if_icmp .le 5, 3) := by decide +kernel
theorem dX0_setRegister_20 : decode cX0_setRegister 20 = .ok (.iconst 0, 1) := by decide +kernel
theorem dX0_setRegister_21 : decode cX0_setRegister 21 = .ok (.ireturn, 1) := by decide +kernel
theorem dX0_setRegister_22 : decode cX0_setRegister 22 = .ok (.aload_n 0, 1) := by decide +kernel
theorem dX0_setRegister_23 : decode cX0_setRegister 23 = .ok (.getfield 16, 3) := by decide +kernel
theorem dX0_setRegister_26 : decode cX0_setRegister 26 = .ok (.iload_n 1, 1) := by decide +kernel
theorem dX0_setRegister_27 : decode cX0_setRegister 27 = .ok (.iload_n 2, 1) := by decide +kernel
theorem dX0_setRegister_28 : decode cX0_setRegister 28 = .ok (.iastore, 1) := by decide +kernel
theorem dX0_setRegister_29 : decode cX0_setRegister 29 = .ok (.iconst 1, 1) := by decide +kernel
theorem dX0_setRegister_30 : decode cX0_setRegister 30 = .ok (.ireturn, 1) := by decide +kernel
abbrev cX0_register : ByteArray := prog_1_method_9_code
def yX0_register : MethodName := ⟨RX0, "register", "(I)I"⟩
theorem dX0_register_0 : decode cX0_register 0 = .ok (.iload_n 1, 1) := by decide +kernel
theorem dX0_register_1 : decode cX0_register 1 = .ok (.ifCond .lt 9, 3) := by decide +kernel
theorem dX0_register_4 : decode cX0_register 4 = .ok (.iload_n 1, 1) := by decide +kernel
theorem dX0_register_5 : decode cX0_register 5 = .ok (.bipush 7, 2) := by decide +kernel
theorem dX0_register_7 : decode cX0_register 7 = .ok (.if_icmp .le 7, 3) := by decide +kernel
theorem dX0_register_10 : decode cX0_register 10 = .ok (.iconst (-1), 1) := by decide +kernel
theorem dX0_register_11 : decode cX0_register 11 = .ok (.goto 9, 3) := by decide +kernel
theorem dX0_register_14 : decode cX0_register 14 = .ok (.aload_n 0, 1) := by decide +kernel
theorem dX0_register_15 : decode cX0_register 15 = .ok (.getfield 16, 3) := by decide +kernel
theorem dX0_register_18 : decode cX0_register 18 = .ok (.iload_n 1, 1) := by decide +kernel
theorem dX0_register_19 : decode cX0_register 19 = .ok (.iaload, 1) := by decide +kernel
theorem dX0_register_20 : decode cX0_register 20 = .ok (.ireturn, 1) := by decide +kernel
abbrev cX0_start : ByteArray := prog_1_method_10_code
def yX0_start : MethodName := ⟨RX0, "start", "(I)Z"⟩
theorem dX0_start_0 : decode cX0_start 0 = .ok (.iload_n 1, 1) := by decide +kernel
theorem dX0_start_1 : decode cX0_start 1 = .ok (.ifCond .lt 9, 3) := by decide +kernel
theorem dX0_start_4 : decode cX0_start 4 = .ok (.iload_n 1, 1) := by decide +kernel
theorem dX0_start_5 : decode cX0_start 5 = .ok (.ldc 64, 2) := by decide +kernel
theorem dX0_start_7 : decode cX0_start 7 = .ok (.if_icmp .le 5, 3) := by decide +kernel
theorem dX0_start_10 : decode cX0_start 10 = .ok (.iconst 0, 1) := by decide +kernel
theorem dX0_start_11 : decode cX0_start 11 = .ok (.ireturn, 1) := by decide +kernel
theorem dX0_start_12 : decode cX0_start 12 = .ok (.aload_n 0, 1) := by decide +kernel
theorem dX0_start_13 : decode cX0_start 13 = .ok (.iload_n 1, 1) := by decide +kernel
theorem dX0_start_14 : decode cX0_start 14 = .ok (.putfield 65, 3) := by decide +kernel
theorem dX0_start_17 : decode cX0_start 17 = .ok (.aload_n 0, 1) := by decide +kernel
theorem dX0_start_18 : decode cX0_start 18 = .ok (.iconst 0, 1) := by decide +kernel
theorem dX0_start_19 : decode cX0_start 19 = .ok (.putfield 68, 3) := by decide +kernel
theorem dX0_start_22 : decode cX0_start 22 = .ok (.iconst 1, 1) := by decide +kernel
theorem dX0_start_23 : decode cX0_start 23 = .ok (.ireturn, 1) := by decide +kernel
abbrev cX0_step : ByteArray := prog_1_method_11_code
def yX0_step : MethodName := ⟨RX0, "step", "(I)I"⟩
theorem dX0_step_0 : decode cX0_step 0 = .ok (.iload_n 1, 1) := by decide +kernel
theorem dX0_step_1 : decode cX0_step 1 = .ok (.ifCond .ge 7, 3) := by decide +kernel
theorem dX0_step_4 : decode cX0_step 4 = .ok (.iconst 0, 1) := by decide +kernel
theorem dX0_step_5 : decode cX0_step 5 = .ok (.goto 15, 3) := by decide +kernel
theorem dX0_step_8 : decode cX0_step 8 = .ok (.iload_n 1, 1) := by decide +kernel
theorem dX0_step_9 : decode cX0_step 9 = .ok (.bipush 100, 2) := by decide +kernel
theorem dX0_step_11 : decode cX0_step 11 = .ok (.if_icmp .le 8, 3) := by decide +kernel
theorem dX0_step_14 : decode cX0_step 14 = .ok (.bipush 100, 2) := by decide +kernel
theorem dX0_step_16 : decode cX0_step 16 = .ok (.goto 4, 3) := by decide +kernel
theorem dX0_step_19 : decode cX0_step 19 = .ok (.iload_n 1, 1) := by decide +kernel
theorem dX0_step_20 : decode cX0_step 20 = .ok (.istore_n 2, 1) := by decide +kernel
theorem dX0_step_21 : decode cX0_step 21 = .ok (.iconst 0, 1) := by decide +kernel
theorem dX0_step_22 : decode cX0_step 22 = .ok (.istore_n 3, 1) := by decide +kernel
theorem dX0_step_23 : decode cX0_step 23 = .ok (.iload_n 3, 1) := by decide +kernel
theorem dX0_step_24 : decode cX0_step 24 = .ok (.iload_n 2, 1) := by decide +kernel
theorem dX0_step_25 : decode cX0_step 25 = .ok (.if_icmp .ge 49, 3) := by decide +kernel
theorem dX0_step_28 : decode cX0_step 28 = .ok (.aload_n 0, 1) := by decide +kernel
theorem dX0_step_29 : decode cX0_step 29 = .ok (.getfield 68, 3) := by decide +kernel
theorem dX0_step_32 : decode cX0_step 32 = .ok (.ifCond .ne 42, 3) := by decide +kernel
theorem dX0_step_35 : decode cX0_step 35 = .ok (.aload_n 0, 1) := by decide +kernel
theorem dX0_step_36 : decode cX0_step 36 = .ok (.invokevirtual 71, 3) := by decide +kernel
theorem dX0_step_39 : decode cX0_step 39 = .ok (.iconst 0, 1) := by decide +kernel
theorem dX0_step_40 : decode cX0_step 40 = .ok (.istore 4, 2) := by decide +kernel
theorem dX0_step_42 : decode cX0_step 42 = .ok (.iload 4, 2) := by decide +kernel
theorem dX0_step_44 : decode cX0_step 44 = .ok (.bipush 10, 2) := by decide +kernel
theorem dX0_step_46 : decode cX0_step 46 = .ok (.if_icmp .ge 22, 3) := by decide +kernel
theorem dX0_step_49 : decode cX0_step 49 = .ok (.aload_n 0, 1) := by decide +kernel
theorem dX0_step_50 : decode cX0_step 50 = .ok (.getfield 23, 3) := by decide +kernel
theorem dX0_step_53 : decode cX0_step 53 = .ok (.bipush 18, 2) := by decide +kernel
theorem dX0_step_55 : decode cX0_step 55 = .ok (.if_icmp .eq 13, 3) := by decide +kernel
theorem dX0_step_58 : decode cX0_step 58 = .ok (.aload_n 0, 1) := by decide +kernel
theorem dX0_step_59 : decode cX0_step 59 = .ok (.invokevirtual 71, 3) := by decide +kernel
theorem dX0_step_62 : decode cX0_step 62 = .ok (.iinc 4 1, 3) := by decide +kernel
theorem dX0_step_65 : decode cX0_step 65 = .ok (.goto (-23), 3) := by decide +kernel
theorem dX0_step_68 : decode cX0_step 68 = .ok (.iinc 3 1, 3) := by decide +kernel
theorem dX0_step_71 : decode cX0_step 71 = .ok (.goto (-48), 3) := by decide +kernel
theorem dX0_step_74 : decode cX0_step 74 = .ok (.aload_n 0, 1) := by decide +kernel
theorem dX0_step_75 : decode cX0_step 75 = .ok (.dup, 1) := by decide +kernel
theorem dX0_step_76 : decode cX0_step 76 = .ok (.getfield 74, 3) := by decide +kernel
theorem dX0_step_79 : decode cX0_step 79 = .ok (.iload_n 3, 1) := by decide +kernel
theorem dX0_step_80 : decode cX0_step 80 = .ok (.iadd, 1) := by decide +kernel
theorem dX0_step_81 : decode cX0_step 81 = .ok (.putfield 74, 3) := by decide +kernel
theorem dX0_step_84 : decode cX0_step 84 = .ok (.iload_n 3, 1) := by decide +kernel
theorem dX0_step_85 : decode cX0_step 85 = .ok (.ireturn, 1) := by decide +kernel
end
section
set_option maxRecDepth 100000
abbrev cX0_cycle : ByteArray := prog_1_method_17_code
def yX0_cycle : MethodName := ⟨RX0, "cycle", "()V"⟩
theorem dX0_cycle_0 : decode cX0_cycle 0 = .ok (.aload_n 0, 1) := by decide +kernel
theorem dX0_cycle_1 : decode cX0_cycle 1 = .ok (.getfield 7, 3) := by decide +kernel
theorem dX0_cycle_4 : decode cX0_cycle 4 = .ok (.aload_n 0, 1) := by decide +kernel
theorem dX0_cycle_5 : decode cX0_cycle 5 = .ok (.getfield 23, 3) := by decide +kernel
theorem dX0_cycle_8 : decode cX0_cycle 8 = .ok (.iaload, 1) := by decide +kernel
theorem dX0_cycle_9 : decode cX0_cycle 9 = .ok (.istore_n 1, 1) := by decide +kernel
theorem dX0_cycle_10 : decode cX0_cycle 10 = .ok (.aload_n 0, 1) := by decide +kernel
theorem dX0_cycle_11 : decode cX0_cycle 11 = .ok (.iload_n 1, 1) := by decide +kernel
theorem dX0_cycle_12 : decode cX0_cycle 12 = .ok (.invokevirtual 77, 3) := by decide +kernel
theorem dX0_cycle_15 : decode cX0_cycle 15 = .ok (.istore_n 2, 1) := by decide +kernel
theorem dX0_cycle_16 : decode cX0_cycle 16 = .ok (.aload_n 0, 1) := by decide +kernel
theorem dX0_cycle_17 : decode cX0_cycle 17 = .ok (.iload_n 1, 1) := by decide +kernel
theorem dX0_cycle_18 : decode cX0_cycle 18 = .ok (.iload_n 2, 1) := by decide +kernel
theorem dX0_cycle_19 : decode cX0_cycle 19 = .ok (.invokevirtual 81, 3) := by decide +kernel
theorem dX0_cycle_22 : decode cX0_cycle 22 = .ok (.istore_n 3, 1) := by decide +kernel
theorem dX0_cycle_23 : decode cX0_cycle 23 = .ok (.aload_n 0, 1) := by decide +kernel
theorem dX0_cycle_24 : decode cX0_cycle 24 = .ok (.getfield 13, 3) := by decide +kernel
theorem dX0_cycle_27 : decode cX0_cycle 27 = .ok (.aload_n 0, 1) := by decide +kernel
theorem dX0_cycle_28 : decode cX0_cycle 28 = .ok (.getfield 85, 3) := by decide +kernel
theorem dX0_cycle_31 : decode cX0_cycle 31 = .ok (.bipush 63, 2) := by decide +kernel
theorem dX0_cycle_33 : decode cX0_cycle 33 = .ok (.iand, 1) := by decide +kernel
theorem dX0_cycle_34 : decode cX0_cycle 34 = .ok (.iaload, 1) := by decide +kernel
theorem dX0_cycle_35 : decode cX0_cycle 35 = .ok (.istore 4, 2) := by decide +kernel
theorem dX0_cycle_37 : decode cX0_cycle 37 = .ok (.aload_n 0, 1) := by decide +kernel
theorem dX0_cycle_38 : decode cX0_cycle 38 = .ok (.iload_n 1, 1) := by decide +kernel
theorem dX0_cycle_39 : decode cX0_cycle 39 = .ok (.iload_n 3, 1) := by decide +kernel
theorem dX0_cycle_40 : decode cX0_cycle 40 = .ok (.iload_n 2, 1) := by decide +kernel
theorem dX0_cycle_41 : decode cX0_cycle 41 = .ok (.invokevirtual 88, 3) := by decide +kernel
theorem dX0_cycle_44 : decode cX0_cycle 44 = .ok (.istore 5, 2) := by decide +kernel
theorem dX0_cycle_46 : decode cX0_cycle 46 = .ok (.aload_n 0, 1) := by decide +kernel
theorem dX0_cycle_47 : decode cX0_cycle 47 = .ok (.iload_n 1, 1) := by decide +kernel
theorem dX0_cycle_48 : decode cX0_cycle 48 = .ok (.invokevirtual 92, 3) := by decide +kernel
theorem dX0_cycle_51 : decode cX0_cycle 51 = .ok (.istore 6, 2) := by decide +kernel
theorem dX0_cycle_53 : decode cX0_cycle 53 = .ok (.aload_n 0, 1) := by decide +kernel
theorem dX0_cycle_54 : decode cX0_cycle 54 = .ok (.iload_n 1, 1) := by decide +kernel
theorem dX0_cycle_55 : decode cX0_cycle 55 = .ok (.ldc 95, 2) := by decide +kernel
theorem dX0_cycle_57 : decode cX0_cycle 57 = .ok (.invokevirtual 96, 3) := by decide +kernel
theorem dX0_cycle_60 : decode cX0_cycle 60 = .ok (.ifCond .eq 19, 3) := by decide +kernel
theorem dX0_cycle_63 : decode cX0_cycle 63 = .ok (.aload_n 0, 1) := by decide +kernel
theorem dX0_cycle_64 : decode cX0_cycle 64 = .ok (.getfield 13, 3) := by decide +kernel
theorem dX0_cycle_67 : decode cX0_cycle 67 = .ok (.aload_n 0, 1) := by decide +kernel
theorem dX0_cycle_68 : decode cX0_cycle 68 = .ok (.getfield 85, 3) := by decide +kernel
theorem dX0_cycle_71 : decode cX0_cycle 71 = .ok (.bipush 63, 2) := by decide +kernel
theorem dX0_cycle_73 : decode cX0_cycle 73 = .ok (.iand, 1) := by decide +kernel
theorem dX0_cycle_74 : decode cX0_cycle 74 = .ok (.aload_n 0, 1) := by decide +kernel
theorem dX0_cycle_75 : decode cX0_cycle 75 = .ok (.getfield 100, 3) := by decide +kernel
theorem dX0_cycle_78 : decode cX0_cycle 78 = .ok (.iastore, 1) := by decide +kernel
theorem dX0_cycle_79 : decode cX0_cycle 79 = .ok (.aload_n 0, 1) := by decide +kernel
theorem dX0_cycle_80 : decode cX0_cycle 80 = .ok (.iload_n 1, 1) := by decide +kernel
theorem dX0_cycle_81 : decode cX0_cycle 81 = .ok (.sipush 256, 3) := by decide +kernel
theorem dX0_cycle_84 : decode cX0_cycle 84 = .ok (.invokevirtual 96, 3) := by decide +kernel
theorem dX0_cycle_87 : decode cX0_cycle 87 = .ok (.ifCond .eq 8, 3) := by decide +kernel
theorem dX0_cycle_90 : decode cX0_cycle 90 = .ok (.aload_n 0, 1) := by decide +kernel
theorem dX0_cycle_91 : decode cX0_cycle 91 = .ok (.iload_n 3, 1) := by decide +kernel
theorem dX0_cycle_92 : decode cX0_cycle 92 = .ok (.putfield 85, 3) := by decide +kernel
theorem dX0_cycle_95 : decode cX0_cycle 95 = .ok (.aload_n 0, 1) := by decide +kernel
theorem dX0_cycle_96 : decode cX0_cycle 96 = .ok (.iload_n 1, 1) := by decide +kernel
theorem dX0_cycle_97 : decode cX0_cycle 97 = .ok (.sipush 512, 3) := by decide +kernel
theorem dX0_cycle_100 : decode cX0_cycle 100 = .ok (.invokevirtual 96, 3) := by decide +kernel
theorem dX0_cycle_103 : decode cX0_cycle 103 = .ok (.ifCond .eq 23, 3) := by decide +kernel
theorem dX0_cycle_106 : decode cX0_cycle 106 = .ok (.aload_n 0, 1) := by decide +kernel
theorem dX0_cycle_107 : decode cX0_cycle 107 = .ok (.aload_n 0, 1) := by decide +kernel
theorem dX0_cycle_108 : decode cX0_cycle 108 = .ok (.iload_n 1, 1) := by decide +kernel
theorem dX0_cycle_109 : decode cX0_cycle 109 = .ok (.ldc 103, 2) := by decide +kernel
theorem dX0_cycle_111 : decode cX0_cycle 111 = .ok (.invokevirtual 96, 3) := by decide +kernel
theorem dX0_cycle_114 : decode cX0_cycle 114 = .ok (.ifCond .eq 8, 3) := by decide +kernel
theorem dX0_cycle_117 : decode cX0_cycle 117 = .ok (.iload 4, 2) := by decide +kernel
theorem dX0_cycle_119 : decode cX0_cycle 119 = .ok (.goto 4, 3) := by decide +kernel
theorem dX0_cycle_122 : decode cX0_cycle 122 = .ok (.iload_n 3, 1) := by decide +kernel
theorem dX0_cycle_123 : decode cX0_cycle 123 = .ok (.putfield 100, 3) := by decide +kernel
theorem dX0_cycle_126 : decode cX0_cycle 126 = .ok (.aload_n 0, 1) := by decide +kernel
theorem dX0_cycle_127 : decode cX0_cycle 127 = .ok (.iload_n 1, 1) := by decide +kernel
theorem dX0_cycle_128 : decode cX0_cycle 128 = .ok (.sipush 4096, 3) := by decide +kernel
theorem dX0_cycle_131 : decode cX0_cycle 131 = .ok (.invokevirtual 96, 3) := by decide +kernel
theorem dX0_cycle_134 : decode cX0_cycle 134 = .ok (.ifCond .eq 34, 3) := by decide +kernel
theorem dX0_cycle_137 : decode cX0_cycle 137 = .ok (.aload_n 0, 1) := by decide +kernel
theorem dX0_cycle_138 : decode cX0_cycle 138 = .ok (.getfield 16, 3) := by decide +kernel
theorem dX0_cycle_141 : decode cX0_cycle 141 = .ok (.aload_n 0, 1) := by decide +kernel
theorem dX0_cycle_142 : decode cX0_cycle 142 = .ok (.iload_n 1, 1) := by decide +kernel
theorem dX0_cycle_143 : decode cX0_cycle 143 = .ok (.ldc 104, 2) := by decide +kernel
theorem dX0_cycle_145 : decode cX0_cycle 145 = .ok (.invokevirtual 96, 3) := by decide +kernel
theorem dX0_cycle_148 : decode cX0_cycle 148 = .ok (.ifCond .eq 8, 3) := by decide +kernel
theorem dX0_cycle_151 : decode cX0_cycle 151 = .ok (.bipush 7, 2) := by decide +kernel
theorem dX0_cycle_153 : decode cX0_cycle 153 = .ok (.goto 13, 3) := by decide +kernel
theorem dX0_cycle_156 : decode cX0_cycle 156 = .ok (.aload_n 0, 1) := by decide +kernel
theorem dX0_cycle_157 : decode cX0_cycle 157 = .ok (.getfield 105, 3) := by decide +kernel
theorem dX0_cycle_160 : decode cX0_cycle 160 = .ok (.bipush 9, 2) := by decide +kernel
theorem dX0_cycle_162 : decode cX0_cycle 162 = .ok (.ishr, 1) := by decide +kernel
theorem dX0_cycle_163 : decode cX0_cycle 163 = .ok (.bipush 7, 2) := by decide +kernel
theorem dX0_cycle_165 : decode cX0_cycle 165 = .ok (.iand, 1) := by decide +kernel
theorem dX0_cycle_166 : decode cX0_cycle 166 = .ok (.iload_n 3, 1) := by decide +kernel
theorem dX0_cycle_167 : decode cX0_cycle 167 = .ok (.iastore, 1) := by decide +kernel
theorem dX0_cycle_168 : decode cX0_cycle 168 = .ok (.aload_n 0, 1) := by decide +kernel
theorem dX0_cycle_169 : decode cX0_cycle 169 = .ok (.iload_n 1, 1) := by decide +kernel
theorem dX0_cycle_170 : decode cX0_cycle 170 = .ok (.sipush 8192, 3) := by decide +kernel
theorem dX0_cycle_173 : decode cX0_cycle 173 = .ok (.invokevirtual 96, 3) := by decide +kernel
theorem dX0_cycle_176 : decode cX0_cycle 176 = .ok (.ifCond .eq 26, 3) := by decide +kernel
theorem dX0_cycle_179 : decode cX0_cycle 179 = .ok (.aload_n 0, 1) := by decide +kernel
theorem dX0_cycle_180 : decode cX0_cycle 180 = .ok (.iload_n 3, 1) := by decide +kernel
theorem dX0_cycle_181 : decode cX0_cycle 181 = .ok (.ldc 108, 2) := by decide +kernel
theorem dX0_cycle_183 : decode cX0_cycle 183 = .ok (.if_icmp .lt 7, 3) := by decide +kernel
theorem dX0_cycle_186 : decode cX0_cycle 186 = .ok (.iconst 4, 1) := by decide +kernel
theorem dX0_cycle_187 : decode cX0_cycle 187 = .ok (.goto 12, 3) := by decide +kernel
theorem dX0_cycle_190 : decode cX0_cycle 190 = .ok (.iload_n 3, 1) := by decide +kernel
theorem dX0_cycle_191 : decode cX0_cycle 191 = .ok (.ifCond .ne 7, 3) := by decide +kernel
theorem dX0_cycle_194 : decode cX0_cycle 194 = .ok (.iconst 2, 1) := by decide +kernel
theorem dX0_cycle_195 : decode cX0_cycle 195 = .ok (.goto 4, 3) := by decide +kernel
theorem dX0_cycle_198 : decode cX0_cycle 198 = .ok (.iconst 1, 1) := by decide +kernel
theorem dX0_cycle_199 : decode cX0_cycle 199 = .ok (.putfield 19, 3) := by decide +kernel
theorem dX0_cycle_202 : decode cX0_cycle 202 = .ok (.aload_n 0, 1) := by decide +kernel
theorem dX0_cycle_203 : decode cX0_cycle 203 = .ok (.iload_n 1, 1) := by decide +kernel
theorem dX0_cycle_204 : decode cX0_cycle 204 = .ok (.sipush 2048, 3) := by decide +kernel
theorem dX0_cycle_207 : decode cX0_cycle 207 = .ok (.invokevirtual 96, 3) := by decide +kernel
theorem dX0_cycle_210 : decode cX0_cycle 210 = .ok (.ifCond .eq 9, 3) := by decide +kernel
theorem dX0_cycle_213 : decode cX0_cycle 213 = .ok (.aload_n 0, 1) := by decide +kernel
theorem dX0_cycle_214 : decode cX0_cycle 214 = .ok (.iload 5, 2) := by decide +kernel
theorem dX0_cycle_216 : decode cX0_cycle 216 = .ok (.putfield 65, 3) := by decide +kernel
theorem dX0_cycle_219 : decode cX0_cycle 219 = .ok (.aload_n 0, 1) := by decide +kernel
theorem dX0_cycle_220 : decode cX0_cycle 220 = .ok (.iload_n 1, 1) := by decide +kernel
theorem dX0_cycle_221 : decode cX0_cycle 221 = .ok (.sipush 1024, 3) := by decide +kernel
theorem dX0_cycle_224 : decode cX0_cycle 224 = .ok (.invokevirtual 96, 3) := by decide +kernel
theorem dX0_cycle_227 : decode cX0_cycle 227 = .ok (.ifCond .eq 8, 3) := by decide +kernel
theorem dX0_cycle_230 : decode cX0_cycle 230 = .ok (.aload_n 0, 1) := by decide +kernel
theorem dX0_cycle_231 : decode cX0_cycle 231 = .ok (.iload_n 3, 1) := by decide +kernel
theorem dX0_cycle_232 : decode cX0_cycle 232 = .ok (.putfield 105, 3) := by decide +kernel
theorem dX0_cycle_235 : decode cX0_cycle 235 = .ok (.aload_n 0, 1) := by decide +kernel
theorem dX0_cycle_236 : decode cX0_cycle 236 = .ok (.iload_n 1, 1) := by decide +kernel
theorem dX0_cycle_237 : decode cX0_cycle 237 = .ok (.ldc 109, 2) := by decide +kernel
theorem dX0_cycle_239 : decode cX0_cycle 239 = .ok (.invokevirtual 96, 3) := by decide +kernel
theorem dX0_cycle_242 : decode cX0_cycle 242 = .ok (.ifCond .eq 8, 3) := by decide +kernel
theorem dX0_cycle_245 : decode cX0_cycle 245 = .ok (.aload_n 0, 1) := by decide +kernel
theorem dX0_cycle_246 : decode cX0_cycle 246 = .ok (.iconst 1, 1) := by decide +kernel
theorem dX0_cycle_247 : decode cX0_cycle 247 = .ok (.putfield 68, 3) := by decide +kernel
theorem dX0_cycle_250 : decode cX0_cycle 250 = .ok (.aload_n 0, 1) := by decide +kernel
theorem dX0_cycle_251 : decode cX0_cycle 251 = .ok (.iload_n 1, 1) := by decide +kernel
theorem dX0_cycle_252 : decode cX0_cycle 252 = .ok (.ldc 110, 2) := by decide +kernel
theorem dX0_cycle_254 : decode cX0_cycle 254 = .ok (.invokevirtual 96, 3) := by decide +kernel
theorem dX0_cycle_257 : decode cX0_cycle 257 = .ok (.ifCond .eq 8, 3) := by decide +kernel
theorem dX0_cycle_260 : decode cX0_cycle 260 = .ok (.aload_n 0, 1) := by decide +kernel
theorem dX0_cycle_261 : decode cX0_cycle 261 = .ok (.iconst 2, 1) := by decide +kernel
theorem dX0_cycle_262 : decode cX0_cycle 262 = .ok (.putfield 68, 3) := by decide +kernel
theorem dX0_cycle_265 : decode cX0_cycle 265 = .ok (.aload_n 0, 1) := by decide +kernel
theorem dX0_cycle_266 : decode cX0_cycle 266 = .ok (.iload 6, 2) := by decide +kernel
theorem dX0_cycle_268 : decode cX0_cycle 268 = .ok (.putfield 23, 3) := by decide +kernel
theorem dX0_cycle_271 : decode cX0_cycle 271 = .ok (.return_, 1) := by decide +kernel
abbrev cX0_adderOutput : ByteArray := prog_1_method_21_code
def yX0_adderOutput : MethodName := ⟨RX0, "adderOutput", "(I)I"⟩
theorem dX0_adderOutput_0 : decode cX0_adderOutput 0 = .ok (.aload_n 0, 1) := by decide +kernel
theorem dX0_adderOutput_1 : decode cX0_adderOutput 1 = .ok (.iload_n 1, 1) := by decide +kernel
theorem dX0_adderOutput_2 : decode cX0_adderOutput 2 = .ok (.ldc 112, 2) := by decide +kernel
theorem dX0_adderOutput_4 : decode cX0_adderOutput 4 = .ok (.invokevirtual 96, 3) := by decide +kernel
theorem dX0_adderOutput_7 : decode cX0_adderOutput 7 = .ok (.ifCond .eq 11, 3) := by decide +kernel
theorem dX0_adderOutput_10 : decode cX0_adderOutput 10 = .ok (.aload_n 0, 1) := by decide +kernel
theorem dX0_adderOutput_11 : decode cX0_adderOutput 11 = .ok (.iload_n 1, 1) := by decide +kernel
theorem dX0_adderOutput_12 : decode cX0_adderOutput 12 = .ok (.invokevirtual 113, 3) := by decide +kernel
theorem dX0_adderOutput_15 : decode cX0_adderOutput 15 = .ok (.goto 7, 3) := by decide +kernel
theorem dX0_adderOutput_18 : decode cX0_adderOutput 18 = .ok (.aload_n 0, 1) := by decide +kernel
theorem dX0_adderOutput_19 : decode cX0_adderOutput 19 = .ok (.getfield 65, 3) := by decide +kernel
theorem dX0_adderOutput_22 : decode cX0_adderOutput 22 = .ok (.istore_n 2, 1) := by decide +kernel
theorem dX0_adderOutput_23 : decode cX0_adderOutput 23 = .ok (.iload_n 1, 1) := by decide +kernel
theorem dX0_adderOutput_24 : decode cX0_adderOutput 24 = .ok (.ldc 116, 2) := by decide +kernel
theorem dX0_adderOutput_26 : decode cX0_adderOutput 26 = .ok (.iand, 1) := by decide +kernel
theorem dX0_adderOutput_27 : decode cX0_adderOutput 27 = .ok (.istore_n 3, 1) := by decide +kernel
theorem dX0_adderOutput_28 : decode cX0_adderOutput 28 = .ok (.iconst 0, 1) := by decide +kernel
theorem dX0_adderOutput_29 : decode cX0_adderOutput 29 = .ok (.istore 4, 2) := by decide +kernel
theorem dX0_adderOutput_31 : decode cX0_adderOutput 31 = .ok (.iload_n 3, 1) := by decide +kernel
theorem dX0_adderOutput_32 : decode cX0_adderOutput 32 = .ok (.ldc 117, 2) := by decide +kernel
theorem dX0_adderOutput_34 : decode cX0_adderOutput 34 = .ok (.if_icmp .ne 15, 3) := by decide +kernel
theorem dX0_adderOutput_37 : decode cX0_adderOutput 37 = .ok (.aload_n 0, 1) := by decide +kernel
theorem dX0_adderOutput_38 : decode cX0_adderOutput 38 = .ok (.aload_n 0, 1) := by decide +kernel
theorem dX0_adderOutput_39 : decode cX0_adderOutput 39 = .ok (.getfield 105, 3) := by decide +kernel
theorem dX0_adderOutput_42 : decode cX0_adderOutput 42 = .ok (.bipush 6, 2) := by decide +kernel
theorem dX0_adderOutput_44 : decode cX0_adderOutput 44 = .ok (.invokevirtual 118, 3) := by decide +kernel
theorem dX0_adderOutput_47 : decode cX0_adderOutput 47 = .ok (.istore 4, 2) := by decide +kernel
theorem dX0_adderOutput_49 : decode cX0_adderOutput 49 = .ok (.iload_n 3, 1) := by decide +kernel
theorem dX0_adderOutput_50 : decode cX0_adderOutput 50 = .ok (.ldc 121, 2) := by decide +kernel
theorem dX0_adderOutput_52 : decode cX0_adderOutput 52 = .ok (.if_icmp .ne 15, 3) := by decide +kernel
theorem dX0_adderOutput_55 : decode cX0_adderOutput 55 = .ok (.aload_n 0, 1) := by decide +kernel
theorem dX0_adderOutput_56 : decode cX0_adderOutput 56 = .ok (.aload_n 0, 1) := by decide +kernel
theorem dX0_adderOutput_57 : decode cX0_adderOutput 57 = .ok (.getfield 105, 3) := by decide +kernel
theorem dX0_adderOutput_60 : decode cX0_adderOutput 60 = .ok (.bipush 9, 2) := by decide +kernel
theorem dX0_adderOutput_62 : decode cX0_adderOutput 62 = .ok (.invokevirtual 118, 3) := by decide +kernel
theorem dX0_adderOutput_65 : decode cX0_adderOutput 65 = .ok (.istore 4, 2) := by decide +kernel
theorem dX0_adderOutput_67 : decode cX0_adderOutput 67 = .ok (.iload_n 3, 1) := by decide +kernel
theorem dX0_adderOutput_68 : decode cX0_adderOutput 68 = .ok (.ldc 116, 2) := by decide +kernel
theorem dX0_adderOutput_70 : decode cX0_adderOutput 70 = .ok (.if_icmp .ne 15, 3) := by decide +kernel
theorem dX0_adderOutput_73 : decode cX0_adderOutput 73 = .ok (.aload_n 0, 1) := by decide +kernel
theorem dX0_adderOutput_74 : decode cX0_adderOutput 74 = .ok (.aload_n 0, 1) := by decide +kernel
theorem dX0_adderOutput_75 : decode cX0_adderOutput 75 = .ok (.getfield 105, 3) := by decide +kernel
theorem dX0_adderOutput_78 : decode cX0_adderOutput 78 = .ok (.bipush 11, 2) := by decide +kernel
theorem dX0_adderOutput_80 : decode cX0_adderOutput 80 = .ok (.invokevirtual 118, 3) := by decide +kernel
theorem dX0_adderOutput_83 : decode cX0_adderOutput 83 = .ok (.istore 4, 2) := by decide +kernel
theorem dX0_adderOutput_85 : decode cX0_adderOutput 85 = .ok (.iload_n 2, 1) := by decide +kernel
theorem dX0_adderOutput_86 : decode cX0_adderOutput 86 = .ok (.iload 4, 2) := by decide +kernel
theorem dX0_adderOutput_88 : decode cX0_adderOutput 88 = .ok (.iadd, 1) := by decide +kernel
theorem dX0_adderOutput_89 : decode cX0_adderOutput 89 = .ok (.ldc 64, 2) := by decide +kernel
theorem dX0_adderOutput_91 : decode cX0_adderOutput 91 = .ok (.iand, 1) := by decide +kernel
theorem dX0_adderOutput_92 : decode cX0_adderOutput 92 = .ok (.ireturn, 1) := by decide +kernel
abbrev cX0_has : ByteArray := prog_1_method_16_code
def yX0_has : MethodName := ⟨RX0, "has", "(II)Z"⟩
theorem dX0_has_0 : decode cX0_has 0 = .ok (.iload_n 1, 1) := by decide +kernel
theorem dX0_has_1 : decode cX0_has 1 = .ok (.iload_n 2, 1) := by decide +kernel
theorem dX0_has_2 : decode cX0_has 2 = .ok (.iand, 1) := by decide +kernel
theorem dX0_has_3 : decode cX0_has 3 = .ok (.ifCond .eq 7, 3) := by decide +kernel
theorem dX0_has_6 : decode cX0_has 6 = .ok (.iconst 1, 1) := by decide +kernel
theorem dX0_has_7 : decode cX0_has 7 = .ok (.goto 4, 3) := by decide +kernel
theorem dX0_has_10 : decode cX0_has 10 = .ok (.iconst 0, 1) := by decide +kernel
theorem dX0_has_11 : decode cX0_has 11 = .ok (.ireturn, 1) := by decide +kernel
abbrev cX0_firstSource : ByteArray := prog_1_method_20_code
def yX0_firstSource : MethodName := ⟨RX0, "firstSource", "(I)I"⟩
theorem dX0_firstSource_0 : decode cX0_firstSource 0 = .ok (.aload_n 0, 1) := by decide +kernel
theorem dX0_firstSource_1 : decode cX0_firstSource 1 = .ok (.getfield 16, 3) := by decide +kernel
theorem dX0_firstSource_4 : decode cX0_firstSource 4 = .ok (.aload_n 0, 1) := by decide +kernel
theorem dX0_firstSource_5 : decode cX0_firstSource 5 = .ok (.iload_n 1, 1) := by decide +kernel
theorem dX0_firstSource_6 : decode cX0_firstSource 6 = .ok (.ldc 111, 2) := by decide +kernel
theorem dX0_firstSource_8 : decode cX0_firstSource 8 = .ok (.invokevirtual 96, 3) := by decide +kernel
theorem dX0_firstSource_11 : decode cX0_firstSource 11 = .ok (.ifCond .eq 16, 3) := by decide +kernel
theorem dX0_firstSource_14 : decode cX0_firstSource 14 = .ok (.aload_n 0, 1) := by decide +kernel
theorem dX0_firstSource_15 : decode cX0_firstSource 15 = .ok (.getfield 105, 3) := by decide +kernel
theorem dX0_firstSource_18 : decode cX0_firstSource 18 = .ok (.bipush 9, 2) := by decide +kernel
theorem dX0_firstSource_20 : decode cX0_firstSource 20 = .ok (.ishr, 1) := by decide +kernel
theorem dX0_firstSource_21 : decode cX0_firstSource 21 = .ok (.bipush 7, 2) := by decide +kernel
theorem dX0_firstSource_23 : decode cX0_firstSource 23 = .ok (.iand, 1) := by decide +kernel
theorem dX0_firstSource_24 : decode cX0_firstSource 24 = .ok (.goto 13, 3) := by decide +kernel
theorem dX0_firstSource_27 : decode cX0_firstSource 27 = .ok (.aload_n 0, 1) := by decide +kernel
theorem dX0_firstSource_28 : decode cX0_firstSource 28 = .ok (.getfield 105, 3) := by decide +kernel
theorem dX0_firstSource_31 : decode cX0_firstSource 31 = .ok (.bipush 6, 2) := by decide +kernel
theorem dX0_firstSource_33 : decode cX0_firstSource 33 = .ok (.ishr, 1) := by decide +kernel
theorem dX0_firstSource_34 : decode cX0_firstSource 34 = .ok (.bipush 7, 2) := by decide +kernel
theorem dX0_firstSource_36 : decode cX0_firstSource 36 = .ok (.iand, 1) := by decide +kernel
theorem dX0_firstSource_37 : decode cX0_firstSource 37 = .ok (.iaload, 1) := by decide +kernel
theorem dX0_firstSource_38 : decode cX0_firstSource 38 = .ok (.ireturn, 1) := by decide +kernel
abbrev cX0_extended : ByteArray := prog_1_method_19_code
def yX0_extended : MethodName := ⟨RX0, "extended", "(II)I"⟩
theorem dX0_extended_0 : decode cX0_extended 0 = .ok (.iload_n 1, 1) := by decide +kernel
theorem dX0_extended_1 : decode cX0_extended 1 = .ok (.iconst 1, 1) := by decide +kernel
theorem dX0_extended_2 : decode cX0_extended 2 = .ok (.iload_n 2, 1) := by decide +kernel
theorem dX0_extended_3 : decode cX0_extended 3 = .ok (.ishl, 1) := by decide +kernel
theorem dX0_extended_4 : decode cX0_extended 4 = .ok (.iconst 1, 1) := by decide +kernel
theorem dX0_extended_5 : decode cX0_extended 5 = .ok (.isub, 1) := by decide +kernel
theorem dX0_extended_6 : decode cX0_extended 6 = .ok (.iand, 1) := by decide +kernel
theorem dX0_extended_7 : decode cX0_extended 7 = .ok (.istore_n 3, 1) := by decide +kernel
theorem dX0_extended_8 : decode cX0_extended 8 = .ok (.iload_n 3, 1) := by decide +kernel
theorem dX0_extended_9 : decode cX0_extended 9 = .ok (.iload_n 2, 1) := by decide +kernel
theorem dX0_extended_10 : decode cX0_extended 10 = .ok (.iconst 1, 1) := by decide +kernel
theorem dX0_extended_11 : decode cX0_extended 11 = .ok (.isub, 1) := by decide +kernel
theorem dX0_extended_12 : decode cX0_extended 12 = .ok (.ishr, 1) := by decide +kernel
theorem dX0_extended_13 : decode cX0_extended 13 = .ok (.iconst 1, 1) := by decide +kernel
theorem dX0_extended_14 : decode cX0_extended 14 = .ok (.iand, 1) := by decide +kernel
theorem dX0_extended_15 : decode cX0_extended 15 = .ok (.ifCond .ne 7, 3) := by decide +kernel
theorem dX0_extended_18 : decode cX0_extended 18 = .ok (.iload_n 3, 1) := by decide +kernel
theorem dX0_extended_19 : decode cX0_extended 19 = .ok (.goto 15, 3) := by decide +kernel
theorem dX0_extended_22 : decode cX0_extended 22 = .ok (.iload_n 3, 1) := by decide +kernel
theorem dX0_extended_23 : decode cX0_extended 23 = .ok (.ldc 64, 2) := by decide +kernel
theorem dX0_extended_25 : decode cX0_extended 25 = .ok (.iconst 1, 1) := by decide +kernel
theorem dX0_extended_26 : decode cX0_extended 26 = .ok (.iload_n 2, 1) := by decide +kernel
theorem dX0_extended_27 : decode cX0_extended 27 = .ok (.ishl, 1) := by decide +kernel
theorem dX0_extended_28 : decode cX0_extended 28 = .ok (.iconst 1, 1) := by decide +kernel
theorem dX0_extended_29 : decode cX0_extended 29 = .ok (.isub, 1) := by decide +kernel
theorem dX0_extended_30 : decode cX0_extended 30 = .ok (.iconst (-1), 1) := by decide +kernel
theorem dX0_extended_31 : decode cX0_extended 31 = .ok (.ixor, 1) := by decide +kernel
theorem dX0_extended_32 : decode cX0_extended 32 = .ok (.iand, 1) := by decide +kernel
theorem dX0_extended_33 : decode cX0_extended 33 = .ok (.ior, 1) := by decide +kernel
theorem dX0_extended_34 : decode cX0_extended 34 = .ok (.ireturn, 1) := by decide +kernel
abbrev cX0_busValue : ByteArray := prog_1_method_23_code
def yX0_busValue : MethodName := ⟨RX0, "busValue", "(II)I"⟩
theorem dX0_busValue_0 : decode cX0_busValue 0 = .ok (.iload_n 1, 1) := by decide +kernel
theorem dX0_busValue_1 : decode cX0_busValue 1 = .ok (.ldc 125, 2) := by decide +kernel
theorem dX0_busValue_3 : decode cX0_busValue 3 = .ok (.iand, 1) := by decide +kernel
theorem dX0_busValue_4 : decode cX0_busValue 4 = .ok (.istore_n 3, 1) := by decide +kernel
theorem dX0_busValue_5 : decode cX0_busValue 5 = .ok (.iload_n 3, 1) := by decide +kernel
theorem dX0_busValue_6 : decode cX0_busValue 6 = .ok (.sipush 16384, 3) := by decide +kernel
theorem dX0_busValue_9 : decode cX0_busValue 9 = .ok (.if_icmp .ne 8, 3) := by decide +kernel
theorem dX0_busValue_12 : decode cX0_busValue 12 = .ok (.aload_n 0, 1) := by decide +kernel
theorem dX0_busValue_13 : decode cX0_busValue 13 = .ok (.getfield 65, 3) := by decide +kernel
theorem dX0_busValue_16 : decode cX0_busValue 16 = .ok (.ireturn, 1) := by decide +kernel
theorem dX0_busValue_17 : decode cX0_busValue 17 = .ok (.iload_n 3, 1) := by decide +kernel
theorem dX0_busValue_18 : decode cX0_busValue 18 = .ok (.ldc 108, 2) := by decide +kernel
theorem dX0_busValue_20 : decode cX0_busValue 20 = .ok (.if_icmp .ne 8, 3) := by decide +kernel
theorem dX0_busValue_23 : decode cX0_busValue 23 = .ok (.aload_n 0, 1) := by decide +kernel
theorem dX0_busValue_24 : decode cX0_busValue 24 = .ok (.getfield 100, 3) := by decide +kernel
theorem dX0_busValue_27 : decode cX0_busValue 27 = .ok (.ireturn, 1) := by decide +kernel
theorem dX0_busValue_28 : decode cX0_busValue 28 = .ok (.iload_n 3, 1) := by decide +kernel
theorem dX0_busValue_29 : decode cX0_busValue 29 = .ok (.ldc 126, 2) := by decide +kernel
theorem dX0_busValue_31 : decode cX0_busValue 31 = .ok (.if_icmp .ne 9, 3) := by decide +kernel
theorem dX0_busValue_34 : decode cX0_busValue 34 = .ok (.aload_n 0, 1) := by decide +kernel
theorem dX0_busValue_35 : decode cX0_busValue 35 = .ok (.iload_n 1, 1) := by decide +kernel
theorem dX0_busValue_36 : decode cX0_busValue 36 = .ok (.invokevirtual 127, 3) := by decide +kernel
theorem dX0_busValue_39 : decode cX0_busValue 39 = .ok (.ireturn, 1) := by decide +kernel
theorem dX0_busValue_40 : decode cX0_busValue 40 = .ok (.iload_n 3, 1) := by decide +kernel
theorem dX0_busValue_41 : decode cX0_busValue 41 = .ok (.ldc 130, 2) := by decide +kernel
theorem dX0_busValue_43 : decode cX0_busValue 43 = .ok (.if_icmp .ne 7, 3) := by decide +kernel
theorem dX0_busValue_46 : decode cX0_busValue 46 = .ok (.iload_n 2, 1) := by decide +kernel
theorem dX0_busValue_47 : decode cX0_busValue 47 = .ok (.goto 4, 3) := by decide +kernel
theorem dX0_busValue_50 : decode cX0_busValue 50 = .ok (.iconst 0, 1) := by decide +kernel
theorem dX0_busValue_51 : decode cX0_busValue 51 = .ok (.ireturn, 1) := by decide +kernel
abbrev cX0_aluOutput : ByteArray := prog_1_method_22_code
def yX0_aluOutput : MethodName := ⟨RX0, "aluOutput", "(I)I"⟩
theorem dX0_aluOutput_0 : decode cX0_aluOutput 0 = .ok (.aload_n 0, 1) := by decide +kernel
theorem dX0_aluOutput_1 : decode cX0_aluOutput 1 = .ok (.iload_n 1, 1) := by decide +kernel
theorem dX0_aluOutput_2 : decode cX0_aluOutput 2 = .ok (.invokevirtual 113, 3) := by decide +kernel
theorem dX0_aluOutput_5 : decode cX0_aluOutput 5 = .ok (.istore_n 2, 1) := by decide +kernel
theorem dX0_aluOutput_6 : decode cX0_aluOutput 6 = .ok (.aload_n 0, 1) := by decide +kernel
theorem dX0_aluOutput_7 : decode cX0_aluOutput 7 = .ok (.getfield 105, 3) := by decide +kernel
theorem dX0_aluOutput_10 : decode cX0_aluOutput 10 = .ok (.iconst 5, 1) := by decide +kernel
theorem dX0_aluOutput_11 : decode cX0_aluOutput 11 = .ok (.ishr, 1) := by decide +kernel
theorem dX0_aluOutput_12 : decode cX0_aluOutput 12 = .ok (.iconst 1, 1) := by decide +kernel
theorem dX0_aluOutput_13 : decode cX0_aluOutput 13 = .ok (.iand, 1) := by decide +kernel
theorem dX0_aluOutput_14 : decode cX0_aluOutput 14 = .ok (.ifCond .ne 18, 3) := by decide +kernel
theorem dX0_aluOutput_17 : decode cX0_aluOutput 17 = .ok (.aload_n 0, 1) := by decide +kernel
theorem dX0_aluOutput_18 : decode cX0_aluOutput 18 = .ok (.getfield 16, 3) := by decide +kernel
theorem dX0_aluOutput_21 : decode cX0_aluOutput 21 = .ok (.aload_n 0, 1) := by decide +kernel
theorem dX0_aluOutput_22 : decode cX0_aluOutput 22 = .ok (.getfield 105, 3) := by decide +kernel
theorem dX0_aluOutput_25 : decode cX0_aluOutput 25 = .ok (.bipush 7, 2) := by decide +kernel
theorem dX0_aluOutput_27 : decode cX0_aluOutput 27 = .ok (.iand, 1) := by decide +kernel
theorem dX0_aluOutput_28 : decode cX0_aluOutput 28 = .ok (.iaload, 1) := by decide +kernel
theorem dX0_aluOutput_29 : decode cX0_aluOutput 29 = .ok (.goto 12, 3) := by decide +kernel
theorem dX0_aluOutput_32 : decode cX0_aluOutput 32 = .ok (.aload_n 0, 1) := by decide +kernel
theorem dX0_aluOutput_33 : decode cX0_aluOutput 33 = .ok (.aload_n 0, 1) := by decide +kernel
theorem dX0_aluOutput_34 : decode cX0_aluOutput 34 = .ok (.getfield 105, 3) := by decide +kernel
theorem dX0_aluOutput_37 : decode cX0_aluOutput 37 = .ok (.iconst 5, 1) := by decide +kernel
theorem dX0_aluOutput_38 : decode cX0_aluOutput 38 = .ok (.invokevirtual 118, 3) := by decide +kernel
theorem dX0_aluOutput_41 : decode cX0_aluOutput 41 = .ok (.istore_n 3, 1) := by decide +kernel
theorem dX0_aluOutput_42 : decode cX0_aluOutput 42 = .ok (.iload_n 1, 1) := by decide +kernel
theorem dX0_aluOutput_43 : decode cX0_aluOutput 43 = .ok (.ldc 122, 2) := by decide +kernel
theorem dX0_aluOutput_45 : decode cX0_aluOutput 45 = .ok (.iand, 1) := by decide +kernel
theorem dX0_aluOutput_46 : decode cX0_aluOutput 46 = .ok (.istore 4, 2) := by decide +kernel
theorem dX0_aluOutput_48 : decode cX0_aluOutput 48 = .ok (.iload 4, 2) := by decide +kernel
theorem dX0_aluOutput_50 : decode cX0_aluOutput 50 = .ok (.ldc 123, 2) := by decide +kernel
theorem dX0_aluOutput_52 : decode cX0_aluOutput 52 = .ok (.if_icmp .ne 7, 3) := by decide +kernel
theorem dX0_aluOutput_55 : decode cX0_aluOutput 55 = .ok (.iload_n 2, 1) := by decide +kernel
theorem dX0_aluOutput_56 : decode cX0_aluOutput 56 = .ok (.iload_n 3, 1) := by decide +kernel
theorem dX0_aluOutput_57 : decode cX0_aluOutput 57 = .ok (.iand, 1) := by decide +kernel
theorem dX0_aluOutput_58 : decode cX0_aluOutput 58 = .ok (.ireturn, 1) := by decide +kernel
theorem dX0_aluOutput_59 : decode cX0_aluOutput 59 = .ok (.iload 4, 2) := by decide +kernel
theorem dX0_aluOutput_61 : decode cX0_aluOutput 61 = .ok (.ldc 124, 2) := by decide +kernel
theorem dX0_aluOutput_63 : decode cX0_aluOutput 63 = .ok (.if_icmp .ne 10, 3) := by decide +kernel
theorem dX0_aluOutput_66 : decode cX0_aluOutput 66 = .ok (.iload_n 2, 1) := by decide +kernel
theorem dX0_aluOutput_67 : decode cX0_aluOutput 67 = .ok (.iconst (-1), 1) := by decide +kernel
theorem dX0_aluOutput_68 : decode cX0_aluOutput 68 = .ok (.ixor, 1) := by decide +kernel
theorem dX0_aluOutput_69 : decode cX0_aluOutput 69 = .ok (.ldc 64, 2) := by decide +kernel
theorem dX0_aluOutput_71 : decode cX0_aluOutput 71 = .ok (.iand, 1) := by decide +kernel
theorem dX0_aluOutput_72 : decode cX0_aluOutput 72 = .ok (.ireturn, 1) := by decide +kernel
theorem dX0_aluOutput_73 : decode cX0_aluOutput 73 = .ok (.iload 4, 2) := by decide +kernel
theorem dX0_aluOutput_75 : decode cX0_aluOutput 75 = .ok (.ldc 122, 2) := by decide +kernel
theorem dX0_aluOutput_77 : decode cX0_aluOutput 77 = .ok (.if_icmp .ne 5, 3) := by decide +kernel
theorem dX0_aluOutput_80 : decode cX0_aluOutput 80 = .ok (.iload_n 2, 1) := by decide +kernel
theorem dX0_aluOutput_81 : decode cX0_aluOutput 81 = .ok (.ireturn, 1) := by decide +kernel
theorem dX0_aluOutput_82 : decode cX0_aluOutput 82 = .ok (.iload_n 2, 1) := by decide +kernel
theorem dX0_aluOutput_83 : decode cX0_aluOutput 83 = .ok (.iload_n 3, 1) := by decide +kernel
theorem dX0_aluOutput_84 : decode cX0_aluOutput 84 = .ok (.iadd, 1) := by decide +kernel
theorem dX0_aluOutput_85 : decode cX0_aluOutput 85 = .ok (.ldc 64, 2) := by decide +kernel
theorem dX0_aluOutput_87 : decode cX0_aluOutput 87 = .ok (.iand, 1) := by decide +kernel
theorem dX0_aluOutput_88 : decode cX0_aluOutput 88 = .ok (.ireturn, 1) := by decide +kernel
abbrev cX0_pcInput : ByteArray := prog_1_method_24_code
def yX0_pcInput : MethodName := ⟨RX0, "pcInput", "(III)I"⟩
theorem dX0_pcInput_0 : decode cX0_pcInput 0 = .ok (.iload_n 1, 1) := by decide +kernel
theorem dX0_pcInput_1 : decode cX0_pcInput 1 = .ok (.ldc 131, 2) := by decide +kernel
theorem dX0_pcInput_3 : decode cX0_pcInput 3 = .ok (.iand, 1) := by decide +kernel
theorem dX0_pcInput_4 : decode cX0_pcInput 4 = .ok (.istore 4, 2) := by decide +kernel
theorem dX0_pcInput_6 : decode cX0_pcInput 6 = .ok (.iload 4, 2) := by decide +kernel
theorem dX0_pcInput_8 : decode cX0_pcInput 8 = .ok (.ldc 132, 2) := by decide +kernel
theorem dX0_pcInput_10 : decode cX0_pcInput 10 = .ok (.if_icmp .ne 5, 3) := by decide +kernel
theorem dX0_pcInput_13 : decode cX0_pcInput 13 = .ok (.iload_n 2, 1) := by decide +kernel
theorem dX0_pcInput_14 : decode cX0_pcInput 14 = .ok (.ireturn, 1) := by decide +kernel
theorem dX0_pcInput_15 : decode cX0_pcInput 15 = .ok (.iload 4, 2) := by decide +kernel
theorem dX0_pcInput_17 : decode cX0_pcInput 17 = .ok (.ldc 133, 2) := by decide +kernel
theorem dX0_pcInput_19 : decode cX0_pcInput 19 = .ok (.if_icmp .ne 7, 3) := by decide +kernel
theorem dX0_pcInput_22 : decode cX0_pcInput 22 = .ok (.iload_n 3, 1) := by decide +kernel
theorem dX0_pcInput_23 : decode cX0_pcInput 23 = .ok (.goto 12, 3) := by decide +kernel
theorem dX0_pcInput_26 : decode cX0_pcInput 26 = .ok (.aload_n 0, 1) := by decide +kernel
theorem dX0_pcInput_27 : decode cX0_pcInput 27 = .ok (.getfield 65, 3) := by decide +kernel
theorem dX0_pcInput_30 : decode cX0_pcInput 30 = .ok (.iconst 1, 1) := by decide +kernel
theorem dX0_pcInput_31 : decode cX0_pcInput 31 = .ok (.iadd, 1) := by decide +kernel
theorem dX0_pcInput_32 : decode cX0_pcInput 32 = .ok (.ldc 64, 2) := by decide +kernel
theorem dX0_pcInput_34 : decode cX0_pcInput 34 = .ok (.iand, 1) := by decide +kernel
theorem dX0_pcInput_35 : decode cX0_pcInput 35 = .ok (.ireturn, 1) := by decide +kernel
abbrev cX0_nextState : ByteArray := prog_1_method_18_code
def yX0_nextState : MethodName := ⟨RX0, "nextState", "(I)I"⟩
theorem dX0_nextState_0 : decode cX0_nextState 0 = .ok (.iload_n 1, 1) := by decide +kernel
theorem dX0_nextState_1 : decode cX0_nextState 1 = .ok (.bipush 63, 2) := by decide +kernel
theorem dX0_nextState_3 : decode cX0_nextState 3 = .ok (.iand, 1) := by decide +kernel
theorem dX0_nextState_4 : decode cX0_nextState 4 = .ok (.istore_n 2, 1) := by decide +kernel
theorem dX0_nextState_5 : decode cX0_nextState 5 = .ok (.iload_n 1, 1) := by decide +kernel
theorem dX0_nextState_6 : decode cX0_nextState 6 = .ok (.sipush 192, 3) := by decide +kernel
theorem dX0_nextState_9 : decode cX0_nextState 9 = .ok (.iand, 1) := by decide +kernel
theorem dX0_nextState_10 : decode cX0_nextState 10 = .ok (.istore_n 3, 1) := by decide +kernel
theorem dX0_nextState_11 : decode cX0_nextState 11 = .ok (.iload_n 3, 1) := by decide +kernel
theorem dX0_nextState_12 : decode cX0_nextState 12 = .ok (.bipush 64, 2) := by decide +kernel
theorem dX0_nextState_14 : decode cX0_nextState 14 = .ok (.if_icmp .ne 11, 3) := by decide +kernel
theorem dX0_nextState_17 : decode cX0_nextState 17 = .ok (.aload_n 0, 1) := by decide +kernel
theorem dX0_nextState_18 : decode cX0_nextState 18 = .ok (.getfield 105, 3) := by decide +kernel
theorem dX0_nextState_21 : decode cX0_nextState 21 = .ok (.bipush 12, 2) := by decide +kernel
theorem dX0_nextState_23 : decode cX0_nextState 23 = .ok (.ishr, 1) := by decide +kernel
theorem dX0_nextState_24 : decode cX0_nextState 24 = .ok (.ireturn, 1) := by decide +kernel
theorem dX0_nextState_25 : decode cX0_nextState 25 = .ok (.iload_n 3, 1) := by decide +kernel
theorem dX0_nextState_26 : decode cX0_nextState 26 = .ok (.sipush 128, 3) := by decide +kernel
theorem dX0_nextState_29 : decode cX0_nextState 29 = .ok (.if_icmp .ne 26, 3) := by decide +kernel
theorem dX0_nextState_32 : decode cX0_nextState 32 = .ok (.aload_n 0, 1) := by decide +kernel
theorem dX0_nextState_33 : decode cX0_nextState 33 = .ok (.getfield 105, 3) := by decide +kernel
theorem dX0_nextState_36 : decode cX0_nextState 36 = .ok (.bipush 9, 2) := by decide +kernel
theorem dX0_nextState_38 : decode cX0_nextState 38 = .ok (.ishr, 1) := by decide +kernel
theorem dX0_nextState_39 : decode cX0_nextState 39 = .ok (.aload_n 0, 1) := by decide +kernel
theorem dX0_nextState_40 : decode cX0_nextState 40 = .ok (.getfield 19, 3) := by decide +kernel
theorem dX0_nextState_43 : decode cX0_nextState 43 = .ok (.iand, 1) := by decide +kernel
theorem dX0_nextState_44 : decode cX0_nextState 44 = .ok (.ifCond .eq 9, 3) := by decide +kernel
theorem dX0_nextState_47 : decode cX0_nextState 47 = .ok (.iload_n 2, 1) := by decide +kernel
theorem dX0_nextState_48 : decode cX0_nextState 48 = .ok (.iconst 4, 1) := by decide +kernel
theorem dX0_nextState_49 : decode cX0_nextState 49 = .ok (.ior, 1) := by decide +kernel
theorem dX0_nextState_50 : decode cX0_nextState 50 = .ok (.goto 4, 3) := by decide +kernel
theorem dX0_nextState_53 : decode cX0_nextState 53 = .ok (.iload_n 2, 1) := by decide +kernel
theorem dX0_nextState_54 : decode cX0_nextState 54 = .ok (.ireturn, 1) := by decide +kernel
theorem dX0_nextState_55 : decode cX0_nextState 55 = .ok (.iload_n 3, 1) := by decide +kernel
theorem dX0_nextState_56 : decode cX0_nextState 56 = .ok (.sipush 192, 3) := by decide +kernel
theorem dX0_nextState_59 : decode cX0_nextState 59 = .ok (.if_icmp .ne 15, 3) := by decide +kernel
theorem dX0_nextState_62 : decode cX0_nextState 62 = .ok (.iload_n 2, 1) := by decide +kernel
theorem dX0_nextState_63 : decode cX0_nextState 63 = .ok (.aload_n 0, 1) := by decide +kernel
theorem dX0_nextState_64 : decode cX0_nextState 64 = .ok (.getfield 105, 3) := by decide +kernel
theorem dX0_nextState_67 : decode cX0_nextState 67 = .ok (.bipush 11, 2) := by decide +kernel
theorem dX0_nextState_69 : decode cX0_nextState 69 = .ok (.ishr, 1) := by decide +kernel
theorem dX0_nextState_70 : decode cX0_nextState 70 = .ok (.iconst 1, 1) := by decide +kernel
theorem dX0_nextState_71 : decode cX0_nextState 71 = .ok (.iand, 1) := by decide +kernel
theorem dX0_nextState_72 : decode cX0_nextState 72 = .ok (.ior, 1) := by decide +kernel
theorem dX0_nextState_73 : decode cX0_nextState 73 = .ok (.ireturn, 1) := by decide +kernel
theorem dX0_nextState_74 : decode cX0_nextState 74 = .ok (.iload_n 2, 1) := by decide +kernel
theorem dX0_nextState_75 : decode cX0_nextState 75 = .ok (.ireturn, 1) := by decide +kernel
abbrev cX0_place : ByteArray := prog_1_method_12_code
def yX0_place : MethodName := ⟨RX0, "place", "()I"⟩
theorem dX0_place_0 : decode cX0_place 0 = .ok (.aload_n 0, 1) := by decide +kernel
theorem dX0_place_1 : decode cX0_place 1 = .ok (.getfield 65, 3) := by decide +kernel
theorem dX0_place_4 : decode cX0_place 4 = .ok (.ireturn, 1) := by decide +kernel
abbrev cX0_sign : ByteArray := prog_1_method_13_code
def yX0_sign : MethodName := ⟨RX0, "sign", "()I"⟩
theorem dX0_sign_0 : decode cX0_sign 0 = .ok (.aload_n 0, 1) := by decide +kernel
theorem dX0_sign_1 : decode cX0_sign 1 = .ok (.getfield 19, 3) := by decide +kernel
theorem dX0_sign_4 : decode cX0_sign 4 = .ok (.iconst 4, 1) := by decide +kernel
theorem dX0_sign_5 : decode cX0_sign 5 = .ok (.if_icmp .ne 7, 3) := by decide +kernel
theorem dX0_sign_8 : decode cX0_sign 8 = .ok (.iconst (-1), 1) := by decide +kernel
theorem dX0_sign_9 : decode cX0_sign 9 = .ok (.goto 16, 3) := by decide +kernel
theorem dX0_sign_12 : decode cX0_sign 12 = .ok (.aload_n 0, 1) := by decide +kernel
theorem dX0_sign_13 : decode cX0_sign 13 = .ok (.getfield 19, 3) := by decide +kernel
theorem dX0_sign_16 : decode cX0_sign 16 = .ok (.iconst 2, 1) := by decide +kernel
theorem dX0_sign_17 : decode cX0_sign 17 = .ok (.if_icmp .ne 7, 3) := by decide +kernel
theorem dX0_sign_20 : decode cX0_sign 20 = .ok (.iconst 0, 1) := by decide +kernel
theorem dX0_sign_21 : decode cX0_sign 21 = .ok (.goto 4, 3) := by decide +kernel
theorem dX0_sign_24 : decode cX0_sign 24 = .ok (.iconst 1, 1) := by decide +kernel
theorem dX0_sign_25 : decode cX0_sign 25 = .ok (.ireturn, 1) := by decide +kernel
abbrev cX0_status : ByteArray := prog_1_method_14_code
def yX0_status : MethodName := ⟨RX0, "status", "()I"⟩
theorem dX0_status_0 : decode cX0_status 0 = .ok (.aload_n 0, 1) := by decide +kernel
theorem dX0_status_1 : decode cX0_status 1 = .ok (.getfield 68, 3) := by decide +kernel
theorem dX0_status_4 : decode cX0_status 4 = .ok (.ireturn, 1) := by decide +kernel
abbrev cX0_count : ByteArray := prog_1_method_15_code
def yX0_count : MethodName := ⟨RX0, "count", "()I"⟩
theorem dX0_count_0 : decode cX0_count 0 = .ok (.aload_n 0, 1) := by decide +kernel
theorem dX0_count_1 : decode cX0_count 1 = .ok (.getfield 74, 3) := by decide +kernel
theorem dX0_count_4 : decode cX0_count 4 = .ok (.ireturn, 1) := by decide +kernel
theorem q23 : (Jvm.Cond.initialized "MicroLc3") ∈ lw_all := lw_g (lw_at lw_m1 1 rfl) rfl
theorem q26 : (Jvm.Cond.instantiable "MicroLc3" (11 : Nat)) ∈ lw_all := lw_g (lw_at lw_m1 4 rfl) rfl
theorem q28 : (Jvm.Cond.instanceMethod ({ cls := "MicroLc3", name := "<init>", desc := "()V" } : Jvm.MethodName)) ∈ lw_all := lw_g (lw_at lw_m1 6 rfl) rfl
theorem q29 : (Jvm.Cond.code ({ cls := "MicroLc3", name := "<init>", desc := "()V" } : Jvm.MethodName) prog_1_method_1_code (1 : Nat) (Option.none : Option Jvm.ClassFile.FieldType)) ∈ lw_all := lw_g (lw_at lw_m1 7 rfl) rfl
theorem q30 : (Jvm.Cond.methodLink "MicroLc3" (1 : Nat) ({ cls := "java/lang/Object", name := "<init>", desc := "()V" } : Jvm.MethodName)) ∈ lw_all := lw_g (lw_at lw_m1 8 rfl) rfl
theorem q33 : (Jvm.Cond.methodLink "MicroLc3" (26 : Nat) ({ cls := "MicroLc3", name := "fillFetchAndDecode", desc := "()V" } : Jvm.MethodName)) ∈ lw_all := lw_g (lw_at lw_m1 11 rfl) rfl
theorem q34 : (Jvm.Cond.privateMethod ({ cls := "MicroLc3", name := "fillFetchAndDecode", desc := "()V" } : Jvm.MethodName)) ∈ lw_tbl := lw_at lw_m1 12 rfl
theorem q35 : (Jvm.Cond.instanceMethod ({ cls := "MicroLc3", name := "fillFetchAndDecode", desc := "()V" } : Jvm.MethodName)) ∈ lw_all := lw_g (lw_at lw_m1 13 rfl) rfl
theorem q36 : (Jvm.Cond.code ({ cls := "MicroLc3", name := "fillFetchAndDecode", desc := "()V" } : Jvm.MethodName) prog_1_method_2_code (1 : Nat) (Option.none : Option Jvm.ClassFile.FieldType)) ∈ lw_all := lw_g (lw_at lw_m1 14 rfl) rfl
theorem q37 : (Jvm.Cond.constant "MicroLc3" (38 : Nat) (67109411 : Int32)) ∈ lw_all := lw_g (lw_at lw_m1 15 rfl) rfl
theorem q38 : (Jvm.Cond.constant "MicroLc3" (39 : Nat) (33824 : Int32)) ∈ lw_all := lw_g (lw_at lw_m1 16 rfl) rfl
theorem q39 : (Jvm.Cond.methodLink "MicroLc3" (29 : Nat) ({ cls := "MicroLc3", name := "fillArithmetic", desc := "()V" } : Jvm.MethodName)) ∈ lw_all := lw_g (lw_at lw_m1 17 rfl) rfl
theorem q40 : (Jvm.Cond.privateMethod ({ cls := "MicroLc3", name := "fillArithmetic", desc := "()V" } : Jvm.MethodName)) ∈ lw_tbl := lw_at lw_m1 18 rfl
theorem q41 : (Jvm.Cond.instanceMethod ({ cls := "MicroLc3", name := "fillArithmetic", desc := "()V" } : Jvm.MethodName)) ∈ lw_all := lw_g (lw_at lw_m1 19 rfl) rfl
theorem q42 : (Jvm.Cond.code ({ cls := "MicroLc3", name := "fillArithmetic", desc := "()V" } : Jvm.MethodName) prog_1_method_3_code (1 : Nat) (Option.none : Option Jvm.ClassFile.FieldType)) ∈ lw_all := lw_g (lw_at lw_m1 20 rfl) rfl
theorem q43 : (Jvm.Cond.constant "MicroLc3" (40 : Nat) (61458 : Int32)) ∈ lw_all := lw_g (lw_at lw_m1 21 rfl) rfl
theorem q44 : (Jvm.Cond.constant "MicroLc3" (41 : Nat) (16838674 : Int32)) ∈ lw_all := lw_g (lw_at lw_m1 22 rfl) rfl
theorem q45 : (Jvm.Cond.constant "MicroLc3" (42 : Nat) (33615890 : Int32)) ∈ lw_all := lw_g (lw_at lw_m1 23 rfl) rfl
theorem q46 : (Jvm.Cond.constant "MicroLc3" (43 : Nat) (8466450 : Int32)) ∈ lw_all := lw_g (lw_at lw_m1 24 rfl) rfl
theorem q47 : (Jvm.Cond.methodLink "MicroLc3" (32 : Nat) ({ cls := "MicroLc3", name := "fillMemory", desc := "()V" } : Jvm.MethodName)) ∈ lw_all := lw_g (lw_at lw_m1 25 rfl) rfl
theorem q48 : (Jvm.Cond.privateMethod ({ cls := "MicroLc3", name := "fillMemory", desc := "()V" } : Jvm.MethodName)) ∈ lw_tbl := lw_at lw_m1 26 rfl
theorem q49 : (Jvm.Cond.instanceMethod ({ cls := "MicroLc3", name := "fillMemory", desc := "()V" } : Jvm.MethodName)) ∈ lw_all := lw_g (lw_at lw_m1 27 rfl) rfl
theorem q50 : (Jvm.Cond.code ({ cls := "MicroLc3", name := "fillMemory", desc := "()V" } : Jvm.MethodName) prog_1_method_4_code (1 : Nat) (Option.none : Option Jvm.ClassFile.FieldType)) ∈ lw_all := lw_g (lw_at lw_m1 28 rfl) rfl
theorem q51 : (Jvm.Cond.constant "MicroLc3" (44 : Nat) (8454425 : Int32)) ∈ lw_all := lw_g (lw_at lw_m1 29 rfl) rfl
theorem q52 : (Jvm.Cond.constant "MicroLc3" (45 : Nat) (6357273 : Int32)) ∈ lw_all := lw_g (lw_at lw_m1 30 rfl) rfl
theorem q53 : (Jvm.Cond.constant "MicroLc3" (46 : Nat) (8454424 : Int32)) ∈ lw_all := lw_g (lw_at lw_m1 31 rfl) rfl
theorem q54 : (Jvm.Cond.constant "MicroLc3" (47 : Nat) (67109402 : Int32)) ∈ lw_all := lw_g (lw_at lw_m1 32 rfl) rfl
theorem q55 : (Jvm.Cond.constant "MicroLc3" (48 : Nat) (33049 : Int32)) ∈ lw_all := lw_g (lw_at lw_m1 33 rfl) rfl
theorem q56 : (Jvm.Cond.constant "MicroLc3" (49 : Nat) (67109403 : Int32)) ∈ lw_all := lw_g (lw_at lw_m1 34 rfl) rfl
theorem q57 : (Jvm.Cond.constant "MicroLc3" (50 : Nat) (45074 : Int32)) ∈ lw_all := lw_g (lw_at lw_m1 35 rfl) rfl
theorem q58 : (Jvm.Cond.constant "MicroLc3" (51 : Nat) (8454423 : Int32)) ∈ lw_all := lw_g (lw_at lw_m1 36 rfl) rfl
theorem q59 : (Jvm.Cond.constant "MicroLc3" (52 : Nat) (6357271 : Int32)) ∈ lw_all := lw_g (lw_at lw_m1 37 rfl) rfl
theorem q60 : (Jvm.Cond.constant "MicroLc3" (53 : Nat) (8454429 : Int32)) ∈ lw_all := lw_g (lw_at lw_m1 38 rfl) rfl
theorem q61 : (Jvm.Cond.constant "MicroLc3" (54 : Nat) (67109407 : Int32)) ∈ lw_all := lw_g (lw_at lw_m1 39 rfl) rfl
theorem q62 : (Jvm.Cond.constant "MicroLc3" (55 : Nat) (33047 : Int32)) ∈ lw_all := lw_g (lw_at lw_m1 40 rfl) rfl
theorem q63 : (Jvm.Cond.constant "MicroLc3" (56 : Nat) (51429904 : Int32)) ∈ lw_all := lw_g (lw_at lw_m1 41 rfl) rfl
theorem q64 : (Jvm.Cond.constant "MicroLc3" (57 : Nat) (134217746 : Int32)) ∈ lw_all := lw_g (lw_at lw_m1 42 rfl) rfl
theorem q65 : (Jvm.Cond.methodLink "MicroLc3" (35 : Nat) ({ cls := "MicroLc3", name := "fillFlow", desc := "()V" } : Jvm.MethodName)) ∈ lw_all := lw_g (lw_at lw_m1 43 rfl) rfl
theorem q66 : (Jvm.Cond.privateMethod ({ cls := "MicroLc3", name := "fillFlow", desc := "()V" } : Jvm.MethodName)) ∈ lw_tbl := lw_at lw_m1 44 rfl
theorem q67 : (Jvm.Cond.instanceMethod ({ cls := "MicroLc3", name := "fillFlow", desc := "()V" } : Jvm.MethodName)) ∈ lw_all := lw_g (lw_at lw_m1 45 rfl) rfl
theorem q68 : (Jvm.Cond.code ({ cls := "MicroLc3", name := "fillFlow", desc := "()V" } : Jvm.MethodName) prog_1_method_5_code (1 : Nat) (Option.none : Option Jvm.ClassFile.FieldType)) ∈ lw_all := lw_g (lw_at lw_m1 46 rfl) rfl
theorem q69 : (Jvm.Cond.constant "MicroLc3" (58 : Nat) (8652818 : Int32)) ∈ lw_all := lw_g (lw_at lw_m1 47 rfl) rfl
theorem q70 : (Jvm.Cond.constant "MicroLc3" (59 : Nat) (2361362 : Int32)) ∈ lw_all := lw_g (lw_at lw_m1 48 rfl) rfl
theorem q71 : (Jvm.Cond.constant "MicroLc3" (60 : Nat) (2906130 : Int32)) ∈ lw_all := lw_g (lw_at lw_m1 49 rfl) rfl
theorem q72 : (Jvm.Cond.constant "MicroLc3" (61 : Nat) (13391890 : Int32)) ∈ lw_all := lw_g (lw_at lw_m1 50 rfl) rfl
theorem q73 : (Jvm.Cond.constant "MicroLc3" (62 : Nat) (268435474 : Int32)) ∈ lw_all := lw_g (lw_at lw_m1 51 rfl) rfl
theorem q74 : (Jvm.Cond.constant "MicroLc3" (63 : Nat) (536870930 : Int32)) ∈ lw_all := lw_g (lw_at lw_m1 52 rfl) rfl
theorem q75 : (Jvm.Cond.fieldLink "MicroLc3" (7 : Nat) "MicroLc3" "control" "[I") ∈ lw_all := lw_g (lw_at lw_m1 53 rfl) rfl
theorem q76 : (Jvm.Cond.fieldLink "MicroLc3" (13 : Nat) "MicroLc3" "memory" "[I") ∈ lw_all := lw_g (lw_at lw_m1 54 rfl) rfl
theorem q77 : (Jvm.Cond.fieldLink "MicroLc3" (16 : Nat) "MicroLc3" "registers" "[I") ∈ lw_all := lw_g (lw_at lw_m1 55 rfl) rfl
theorem q78 : (Jvm.Cond.fieldLink "MicroLc3" (65 : Nat) "MicroLc3" "pc" "I") ∈ lw_all := lw_g (lw_at lw_m1 56 rfl) rfl
theorem q79 : (Jvm.Cond.fieldLink "MicroLc3" (19 : Nat) "MicroLc3" "signBits" "I") ∈ lw_all := lw_g (lw_at lw_m1 57 rfl) rfl
theorem q80 : (Jvm.Cond.fieldLink "MicroLc3" (68 : Nat) "MicroLc3" "statusNow" "I") ∈ lw_all := lw_g (lw_at lw_m1 58 rfl) rfl
theorem q81 : (Jvm.Cond.fieldLink "MicroLc3" (74 : Nat) "MicroLc3" "executed" "I") ∈ lw_all := lw_g (lw_at lw_m1 59 rfl) rfl
theorem q82 : (Jvm.Cond.fieldLink "MicroLc3" (23 : Nat) "MicroLc3" "state" "I") ∈ lw_all := lw_g (lw_at lw_m1 60 rfl) rfl
theorem q83 : (Jvm.Cond.fieldLink "MicroLc3" (85 : Nat) "MicroLc3" "mar" "I") ∈ lw_all := lw_g (lw_at lw_m1 61 rfl) rfl
theorem q84 : (Jvm.Cond.fieldLink "MicroLc3" (100 : Nat) "MicroLc3" "mdr" "I") ∈ lw_all := lw_g (lw_at lw_m1 62 rfl) rfl
theorem q85 : (Jvm.Cond.fieldLink "MicroLc3" (105 : Nat) "MicroLc3" "ir" "I") ∈ lw_all := lw_g (lw_at lw_m1 63 rfl) rfl
theorem q86 : (Jvm.Cond.laysFinal "MicroLc3" "MicroLc3" "control" "[I") ∈ lw_all := lw_g (lw_at lw_m1 64 rfl) rfl
theorem q87 : (Jvm.Cond.soleField "MicroLc3" "control") ∈ lw_all := lw_g (lw_at lw_m1 65 rfl) rfl
theorem q88 : (Jvm.Cond.laysFinal "MicroLc3" "MicroLc3" "memory" "[I") ∈ lw_all := lw_g (lw_at lw_m1 66 rfl) rfl
theorem q89 : (Jvm.Cond.soleField "MicroLc3" "memory") ∈ lw_all := lw_g (lw_at lw_m1 67 rfl) rfl
theorem q90 : (Jvm.Cond.laysFinal "MicroLc3" "MicroLc3" "registers" "[I") ∈ lw_all := lw_g (lw_at lw_m1 68 rfl) rfl
theorem q91 : (Jvm.Cond.soleField "MicroLc3" "registers") ∈ lw_all := lw_g (lw_at lw_m1 69 rfl) rfl
theorem q92 : (Jvm.Cond.lays "MicroLc3" "MicroLc3" "pc" "I") ∈ lw_all := lw_g (lw_at lw_m1 70 rfl) rfl
theorem q93 : (Jvm.Cond.soleField "MicroLc3" "pc") ∈ lw_all := lw_g (lw_at lw_m1 71 rfl) rfl
theorem q94 : (Jvm.Cond.lays "MicroLc3" "MicroLc3" "signBits" "I") ∈ lw_all := lw_g (lw_at lw_m1 72 rfl) rfl
theorem q95 : (Jvm.Cond.soleField "MicroLc3" "signBits") ∈ lw_all := lw_g (lw_at lw_m1 73 rfl) rfl
theorem q96 : (Jvm.Cond.lays "MicroLc3" "MicroLc3" "statusNow" "I") ∈ lw_all := lw_g (lw_at lw_m1 74 rfl) rfl
theorem q97 : (Jvm.Cond.soleField "MicroLc3" "statusNow") ∈ lw_all := lw_g (lw_at lw_m1 75 rfl) rfl
theorem q98 : (Jvm.Cond.lays "MicroLc3" "MicroLc3" "executed" "I") ∈ lw_all := lw_g (lw_at lw_m1 76 rfl) rfl
theorem q99 : (Jvm.Cond.soleField "MicroLc3" "executed") ∈ lw_all := lw_g (lw_at lw_m1 77 rfl) rfl
theorem q100 : (Jvm.Cond.lays "MicroLc3" "MicroLc3" "state" "I") ∈ lw_all := lw_g (lw_at lw_m1 78 rfl) rfl
theorem q101 : (Jvm.Cond.soleField "MicroLc3" "state") ∈ lw_all := lw_g (lw_at lw_m1 79 rfl) rfl
theorem q102 : (Jvm.Cond.lays "MicroLc3" "MicroLc3" "mar" "I") ∈ lw_all := lw_g (lw_at lw_m1 80 rfl) rfl
theorem q103 : (Jvm.Cond.soleField "MicroLc3" "mar") ∈ lw_all := lw_g (lw_at lw_m1 81 rfl) rfl
theorem q104 : (Jvm.Cond.lays "MicroLc3" "MicroLc3" "mdr" "I") ∈ lw_all := lw_g (lw_at lw_m1 82 rfl) rfl
theorem q105 : (Jvm.Cond.soleField "MicroLc3" "mdr") ∈ lw_all := lw_g (lw_at lw_m1 83 rfl) rfl
theorem q106 : (Jvm.Cond.lays "MicroLc3" "MicroLc3" "ir" "I") ∈ lw_all := lw_g (lw_at lw_m1 84 rfl) rfl
theorem q107 : (Jvm.Cond.soleField "MicroLc3" "ir") ∈ lw_all := lw_g (lw_at lw_m1 85 rfl) rfl
theorem q108 : (Jvm.Cond.superclass "MicroLc3" "java/lang/Object") ∈ lw_all := lw_g (lw_at lw_m1 86 rfl) rfl
theorem q111 : (Jvm.Cond.instanceMethod ({ cls := "MicroLc3", name := "poke", desc := "(II)Z" } : Jvm.MethodName)) ∈ lw_all := lw_g (lw_at lw_m1 89 rfl) rfl
theorem q112 : (Jvm.Cond.selects "MicroLc3" ({ cls := "MicroLc3", name := "poke", desc := "(II)Z" } : Jvm.MethodName) ({ cls := "MicroLc3", name := "poke", desc := "(II)Z" } : Jvm.MethodName)) ∈ lw_all := lw_g (lw_at lw_m1 90 rfl) rfl
theorem q113 : (Jvm.Cond.code ({ cls := "MicroLc3", name := "poke", desc := "(II)Z" } : Jvm.MethodName) prog_1_method_6_code (3 : Nat) (Option.some Jvm.ClassFile.FieldType.boolean)) ∈ lw_all := lw_g (lw_at lw_m1 91 rfl) rfl
theorem q114 : (Jvm.Cond.constant "MicroLc3" (64 : Nat) (65535 : Int32)) ∈ lw_all := lw_g (lw_at lw_m1 92 rfl) rfl
theorem q116 : (Jvm.Cond.instanceMethod ({ cls := "MicroLc3", name := "peek", desc := "(I)I" } : Jvm.MethodName)) ∈ lw_all := lw_g (lw_at lw_m1 94 rfl) rfl
theorem q117 : (Jvm.Cond.selects "MicroLc3" ({ cls := "MicroLc3", name := "peek", desc := "(I)I" } : Jvm.MethodName) ({ cls := "MicroLc3", name := "peek", desc := "(I)I" } : Jvm.MethodName)) ∈ lw_all := lw_g (lw_at lw_m1 95 rfl) rfl
theorem q118 : (Jvm.Cond.code ({ cls := "MicroLc3", name := "peek", desc := "(I)I" } : Jvm.MethodName) prog_1_method_7_code (2 : Nat) (Option.some Jvm.ClassFile.FieldType.int)) ∈ lw_all := lw_g (lw_at lw_m1 96 rfl) rfl
theorem q120 : (Jvm.Cond.instanceMethod ({ cls := "MicroLc3", name := "setRegister", desc := "(II)Z" } : Jvm.MethodName)) ∈ lw_all := lw_g (lw_at lw_m1 98 rfl) rfl
theorem q121 : (Jvm.Cond.selects "MicroLc3" ({ cls := "MicroLc3", name := "setRegister", desc := "(II)Z" } : Jvm.MethodName) ({ cls := "MicroLc3", name := "setRegister", desc := "(II)Z" } : Jvm.MethodName)) ∈ lw_all := lw_g (lw_at lw_m1 99 rfl) rfl
theorem q122 : (Jvm.Cond.code ({ cls := "MicroLc3", name := "setRegister", desc := "(II)Z" } : Jvm.MethodName) prog_1_method_8_code (3 : Nat) (Option.some Jvm.ClassFile.FieldType.boolean)) ∈ lw_all := lw_g (lw_at lw_m1 100 rfl) rfl
theorem q124 : (Jvm.Cond.instanceMethod ({ cls := "MicroLc3", name := "register", desc := "(I)I" } : Jvm.MethodName)) ∈ lw_all := lw_g (lw_at lw_m1 102 rfl) rfl
theorem q125 : (Jvm.Cond.selects "MicroLc3" ({ cls := "MicroLc3", name := "register", desc := "(I)I" } : Jvm.MethodName) ({ cls := "MicroLc3", name := "register", desc := "(I)I" } : Jvm.MethodName)) ∈ lw_all := lw_g (lw_at lw_m1 103 rfl) rfl
theorem q126 : (Jvm.Cond.code ({ cls := "MicroLc3", name := "register", desc := "(I)I" } : Jvm.MethodName) prog_1_method_9_code (2 : Nat) (Option.some Jvm.ClassFile.FieldType.int)) ∈ lw_all := lw_g (lw_at lw_m1 104 rfl) rfl
theorem q128 : (Jvm.Cond.instanceMethod ({ cls := "MicroLc3", name := "start", desc := "(I)Z" } : Jvm.MethodName)) ∈ lw_all := lw_g (lw_at lw_m1 106 rfl) rfl
theorem q129 : (Jvm.Cond.selects "MicroLc3" ({ cls := "MicroLc3", name := "start", desc := "(I)Z" } : Jvm.MethodName) ({ cls := "MicroLc3", name := "start", desc := "(I)Z" } : Jvm.MethodName)) ∈ lw_all := lw_g (lw_at lw_m1 107 rfl) rfl
theorem q130 : (Jvm.Cond.code ({ cls := "MicroLc3", name := "start", desc := "(I)Z" } : Jvm.MethodName) prog_1_method_10_code (2 : Nat) (Option.some Jvm.ClassFile.FieldType.boolean)) ∈ lw_all := lw_g (lw_at lw_m1 108 rfl) rfl
theorem q132 : (Jvm.Cond.instanceMethod ({ cls := "MicroLc3", name := "step", desc := "(I)I" } : Jvm.MethodName)) ∈ lw_all := lw_g (lw_at lw_m1 110 rfl) rfl
theorem q133 : (Jvm.Cond.selects "MicroLc3" ({ cls := "MicroLc3", name := "step", desc := "(I)I" } : Jvm.MethodName) ({ cls := "MicroLc3", name := "step", desc := "(I)I" } : Jvm.MethodName)) ∈ lw_all := lw_g (lw_at lw_m1 111 rfl) rfl
theorem q134 : (Jvm.Cond.code ({ cls := "MicroLc3", name := "step", desc := "(I)I" } : Jvm.MethodName) prog_1_method_11_code (5 : Nat) (Option.some Jvm.ClassFile.FieldType.int)) ∈ lw_all := lw_g (lw_at lw_m1 112 rfl) rfl
theorem q135 : (Jvm.Cond.methodLink "MicroLc3" (71 : Nat) ({ cls := "MicroLc3", name := "cycle", desc := "()V" } : Jvm.MethodName)) ∈ lw_all := lw_g (lw_at lw_m1 113 rfl) rfl
theorem q136 : (Jvm.Cond.privateMethod ({ cls := "MicroLc3", name := "cycle", desc := "()V" } : Jvm.MethodName)) ∈ lw_tbl := lw_at lw_m1 114 rfl
theorem q137 : (Jvm.Cond.instanceMethod ({ cls := "MicroLc3", name := "cycle", desc := "()V" } : Jvm.MethodName)) ∈ lw_all := lw_g (lw_at lw_m1 115 rfl) rfl
theorem q138 : (Jvm.Cond.code ({ cls := "MicroLc3", name := "cycle", desc := "()V" } : Jvm.MethodName) prog_1_method_17_code (7 : Nat) (Option.none : Option Jvm.ClassFile.FieldType)) ∈ lw_all := lw_g (lw_at lw_m1 116 rfl) rfl
theorem q139 : (Jvm.Cond.methodLink "MicroLc3" (77 : Nat) ({ cls := "MicroLc3", name := "adderOutput", desc := "(I)I" } : Jvm.MethodName)) ∈ lw_all := lw_g (lw_at lw_m1 117 rfl) rfl
theorem q140 : (Jvm.Cond.privateMethod ({ cls := "MicroLc3", name := "adderOutput", desc := "(I)I" } : Jvm.MethodName)) ∈ lw_tbl := lw_at lw_m1 118 rfl
theorem q141 : (Jvm.Cond.instanceMethod ({ cls := "MicroLc3", name := "adderOutput", desc := "(I)I" } : Jvm.MethodName)) ∈ lw_all := lw_g (lw_at lw_m1 119 rfl) rfl
theorem q142 : (Jvm.Cond.code ({ cls := "MicroLc3", name := "adderOutput", desc := "(I)I" } : Jvm.MethodName) prog_1_method_21_code (5 : Nat) (Option.some Jvm.ClassFile.FieldType.int)) ∈ lw_all := lw_g (lw_at lw_m1 120 rfl) rfl
theorem q143 : (Jvm.Cond.constant "MicroLc3" (112 : Nat) (2097152 : Int32)) ∈ lw_all := lw_g (lw_at lw_m1 121 rfl) rfl
theorem q144 : (Jvm.Cond.methodLink "MicroLc3" (96 : Nat) ({ cls := "MicroLc3", name := "has", desc := "(II)Z" } : Jvm.MethodName)) ∈ lw_all := lw_g (lw_at lw_m1 122 rfl) rfl
theorem q145 : (Jvm.Cond.privateMethod ({ cls := "MicroLc3", name := "has", desc := "(II)Z" } : Jvm.MethodName)) ∈ lw_tbl := lw_at lw_m1 123 rfl
theorem q146 : (Jvm.Cond.instanceMethod ({ cls := "MicroLc3", name := "has", desc := "(II)Z" } : Jvm.MethodName)) ∈ lw_all := lw_g (lw_at lw_m1 124 rfl) rfl
theorem q147 : (Jvm.Cond.code ({ cls := "MicroLc3", name := "has", desc := "(II)Z" } : Jvm.MethodName) prog_1_method_16_code (3 : Nat) (Option.some Jvm.ClassFile.FieldType.boolean)) ∈ lw_all := lw_g (lw_at lw_m1 125 rfl) rfl
theorem q148 : (Jvm.Cond.methodLink "MicroLc3" (113 : Nat) ({ cls := "MicroLc3", name := "firstSource", desc := "(I)I" } : Jvm.MethodName)) ∈ lw_all := lw_g (lw_at lw_m1 126 rfl) rfl
theorem q149 : (Jvm.Cond.privateMethod ({ cls := "MicroLc3", name := "firstSource", desc := "(I)I" } : Jvm.MethodName)) ∈ lw_tbl := lw_at lw_m1 127 rfl
theorem q150 : (Jvm.Cond.instanceMethod ({ cls := "MicroLc3", name := "firstSource", desc := "(I)I" } : Jvm.MethodName)) ∈ lw_all := lw_g (lw_at lw_m1 128 rfl) rfl
theorem q151 : (Jvm.Cond.code ({ cls := "MicroLc3", name := "firstSource", desc := "(I)I" } : Jvm.MethodName) prog_1_method_20_code (2 : Nat) (Option.some Jvm.ClassFile.FieldType.int)) ∈ lw_all := lw_g (lw_at lw_m1 129 rfl) rfl
theorem q152 : (Jvm.Cond.constant "MicroLc3" (111 : Nat) (1048576 : Int32)) ∈ lw_all := lw_g (lw_at lw_m1 130 rfl) rfl
theorem q153 : (Jvm.Cond.constant "MicroLc3" (116 : Nat) (12582912 : Int32)) ∈ lw_all := lw_g (lw_at lw_m1 131 rfl) rfl
theorem q154 : (Jvm.Cond.constant "MicroLc3" (117 : Nat) (4194304 : Int32)) ∈ lw_all := lw_g (lw_at lw_m1 132 rfl) rfl
theorem q155 : (Jvm.Cond.methodLink "MicroLc3" (118 : Nat) ({ cls := "MicroLc3", name := "extended", desc := "(II)I" } : Jvm.MethodName)) ∈ lw_all := lw_g (lw_at lw_m1 133 rfl) rfl
theorem q156 : (Jvm.Cond.privateMethod ({ cls := "MicroLc3", name := "extended", desc := "(II)I" } : Jvm.MethodName)) ∈ lw_tbl := lw_at lw_m1 134 rfl
theorem q157 : (Jvm.Cond.instanceMethod ({ cls := "MicroLc3", name := "extended", desc := "(II)I" } : Jvm.MethodName)) ∈ lw_all := lw_g (lw_at lw_m1 135 rfl) rfl
theorem q158 : (Jvm.Cond.code ({ cls := "MicroLc3", name := "extended", desc := "(II)I" } : Jvm.MethodName) prog_1_method_19_code (4 : Nat) (Option.some Jvm.ClassFile.FieldType.int)) ∈ lw_all := lw_g (lw_at lw_m1 136 rfl) rfl
theorem q159 : (Jvm.Cond.constant "MicroLc3" (121 : Nat) (8388608 : Int32)) ∈ lw_all := lw_g (lw_at lw_m1 137 rfl) rfl
theorem q160 : (Jvm.Cond.methodLink "MicroLc3" (81 : Nat) ({ cls := "MicroLc3", name := "busValue", desc := "(II)I" } : Jvm.MethodName)) ∈ lw_all := lw_g (lw_at lw_m1 138 rfl) rfl
theorem q161 : (Jvm.Cond.privateMethod ({ cls := "MicroLc3", name := "busValue", desc := "(II)I" } : Jvm.MethodName)) ∈ lw_tbl := lw_at lw_m1 139 rfl
theorem q162 : (Jvm.Cond.instanceMethod ({ cls := "MicroLc3", name := "busValue", desc := "(II)I" } : Jvm.MethodName)) ∈ lw_all := lw_g (lw_at lw_m1 140 rfl) rfl
theorem q163 : (Jvm.Cond.code ({ cls := "MicroLc3", name := "busValue", desc := "(II)I" } : Jvm.MethodName) prog_1_method_23_code (4 : Nat) (Option.some Jvm.ClassFile.FieldType.int)) ∈ lw_all := lw_g (lw_at lw_m1 141 rfl) rfl
theorem q164 : (Jvm.Cond.constant "MicroLc3" (125 : Nat) (114688 : Int32)) ∈ lw_all := lw_g (lw_at lw_m1 142 rfl) rfl
theorem q165 : (Jvm.Cond.constant "MicroLc3" (108 : Nat) (32768 : Int32)) ∈ lw_all := lw_g (lw_at lw_m1 143 rfl) rfl
theorem q166 : (Jvm.Cond.constant "MicroLc3" (126 : Nat) (49152 : Int32)) ∈ lw_all := lw_g (lw_at lw_m1 144 rfl) rfl
theorem q167 : (Jvm.Cond.methodLink "MicroLc3" (127 : Nat) ({ cls := "MicroLc3", name := "aluOutput", desc := "(I)I" } : Jvm.MethodName)) ∈ lw_all := lw_g (lw_at lw_m1 145 rfl) rfl
theorem q168 : (Jvm.Cond.privateMethod ({ cls := "MicroLc3", name := "aluOutput", desc := "(I)I" } : Jvm.MethodName)) ∈ lw_tbl := lw_at lw_m1 146 rfl
theorem q169 : (Jvm.Cond.instanceMethod ({ cls := "MicroLc3", name := "aluOutput", desc := "(I)I" } : Jvm.MethodName)) ∈ lw_all := lw_g (lw_at lw_m1 147 rfl) rfl
theorem q170 : (Jvm.Cond.code ({ cls := "MicroLc3", name := "aluOutput", desc := "(I)I" } : Jvm.MethodName) prog_1_method_22_code (5 : Nat) (Option.some Jvm.ClassFile.FieldType.int)) ∈ lw_all := lw_g (lw_at lw_m1 148 rfl) rfl
theorem q171 : (Jvm.Cond.constant "MicroLc3" (122 : Nat) (50331648 : Int32)) ∈ lw_all := lw_g (lw_at lw_m1 149 rfl) rfl
theorem q172 : (Jvm.Cond.constant "MicroLc3" (123 : Nat) (16777216 : Int32)) ∈ lw_all := lw_g (lw_at lw_m1 150 rfl) rfl
theorem q173 : (Jvm.Cond.constant "MicroLc3" (124 : Nat) (33554432 : Int32)) ∈ lw_all := lw_g (lw_at lw_m1 151 rfl) rfl
theorem q174 : (Jvm.Cond.constant "MicroLc3" (130 : Nat) (65536 : Int32)) ∈ lw_all := lw_g (lw_at lw_m1 152 rfl) rfl
theorem q175 : (Jvm.Cond.methodLink "MicroLc3" (88 : Nat) ({ cls := "MicroLc3", name := "pcInput", desc := "(III)I" } : Jvm.MethodName)) ∈ lw_all := lw_g (lw_at lw_m1 153 rfl) rfl
theorem q176 : (Jvm.Cond.privateMethod ({ cls := "MicroLc3", name := "pcInput", desc := "(III)I" } : Jvm.MethodName)) ∈ lw_tbl := lw_at lw_m1 154 rfl
theorem q177 : (Jvm.Cond.instanceMethod ({ cls := "MicroLc3", name := "pcInput", desc := "(III)I" } : Jvm.MethodName)) ∈ lw_all := lw_g (lw_at lw_m1 155 rfl) rfl
theorem q178 : (Jvm.Cond.code ({ cls := "MicroLc3", name := "pcInput", desc := "(III)I" } : Jvm.MethodName) prog_1_method_24_code (5 : Nat) (Option.some Jvm.ClassFile.FieldType.int)) ∈ lw_all := lw_g (lw_at lw_m1 156 rfl) rfl
theorem q179 : (Jvm.Cond.constant "MicroLc3" (131 : Nat) (393216 : Int32)) ∈ lw_all := lw_g (lw_at lw_m1 157 rfl) rfl
theorem q180 : (Jvm.Cond.constant "MicroLc3" (132 : Nat) (131072 : Int32)) ∈ lw_all := lw_g (lw_at lw_m1 158 rfl) rfl
theorem q181 : (Jvm.Cond.constant "MicroLc3" (133 : Nat) (262144 : Int32)) ∈ lw_all := lw_g (lw_at lw_m1 159 rfl) rfl
theorem q182 : (Jvm.Cond.methodLink "MicroLc3" (92 : Nat) ({ cls := "MicroLc3", name := "nextState", desc := "(I)I" } : Jvm.MethodName)) ∈ lw_all := lw_g (lw_at lw_m1 160 rfl) rfl
theorem q183 : (Jvm.Cond.privateMethod ({ cls := "MicroLc3", name := "nextState", desc := "(I)I" } : Jvm.MethodName)) ∈ lw_tbl := lw_at lw_m1 161 rfl
theorem q184 : (Jvm.Cond.instanceMethod ({ cls := "MicroLc3", name := "nextState", desc := "(I)I" } : Jvm.MethodName)) ∈ lw_all := lw_g (lw_at lw_m1 162 rfl) rfl
theorem q185 : (Jvm.Cond.code ({ cls := "MicroLc3", name := "nextState", desc := "(I)I" } : Jvm.MethodName) prog_1_method_18_code (4 : Nat) (Option.some Jvm.ClassFile.FieldType.int)) ∈ lw_all := lw_g (lw_at lw_m1 163 rfl) rfl
theorem q186 : (Jvm.Cond.constant "MicroLc3" (95 : Nat) (134217728 : Int32)) ∈ lw_all := lw_g (lw_at lw_m1 164 rfl) rfl
theorem q187 : (Jvm.Cond.constant "MicroLc3" (103 : Nat) (67108864 : Int32)) ∈ lw_all := lw_g (lw_at lw_m1 165 rfl) rfl
theorem q188 : (Jvm.Cond.constant "MicroLc3" (104 : Nat) (524288 : Int32)) ∈ lw_all := lw_g (lw_at lw_m1 166 rfl) rfl
theorem q189 : (Jvm.Cond.constant "MicroLc3" (109 : Nat) (268435456 : Int32)) ∈ lw_all := lw_g (lw_at lw_m1 167 rfl) rfl
theorem q190 : (Jvm.Cond.constant "MicroLc3" (110 : Nat) (536870912 : Int32)) ∈ lw_all := lw_g (lw_at lw_m1 168 rfl) rfl
theorem q192 : (Jvm.Cond.instanceMethod ({ cls := "MicroLc3", name := "place", desc := "()I" } : Jvm.MethodName)) ∈ lw_all := lw_g (lw_at lw_m1 170 rfl) rfl
theorem q193 : (Jvm.Cond.selects "MicroLc3" ({ cls := "MicroLc3", name := "place", desc := "()I" } : Jvm.MethodName) ({ cls := "MicroLc3", name := "place", desc := "()I" } : Jvm.MethodName)) ∈ lw_all := lw_g (lw_at lw_m1 171 rfl) rfl
theorem q194 : (Jvm.Cond.code ({ cls := "MicroLc3", name := "place", desc := "()I" } : Jvm.MethodName) prog_1_method_12_code (1 : Nat) (Option.some Jvm.ClassFile.FieldType.int)) ∈ lw_all := lw_g (lw_at lw_m1 172 rfl) rfl
theorem q196 : (Jvm.Cond.instanceMethod ({ cls := "MicroLc3", name := "sign", desc := "()I" } : Jvm.MethodName)) ∈ lw_all := lw_g (lw_at lw_m1 174 rfl) rfl
theorem q197 : (Jvm.Cond.selects "MicroLc3" ({ cls := "MicroLc3", name := "sign", desc := "()I" } : Jvm.MethodName) ({ cls := "MicroLc3", name := "sign", desc := "()I" } : Jvm.MethodName)) ∈ lw_all := lw_g (lw_at lw_m1 175 rfl) rfl
theorem q198 : (Jvm.Cond.code ({ cls := "MicroLc3", name := "sign", desc := "()I" } : Jvm.MethodName) prog_1_method_13_code (1 : Nat) (Option.some Jvm.ClassFile.FieldType.int)) ∈ lw_all := lw_g (lw_at lw_m1 176 rfl) rfl
theorem q200 : (Jvm.Cond.instanceMethod ({ cls := "MicroLc3", name := "status", desc := "()I" } : Jvm.MethodName)) ∈ lw_all := lw_g (lw_at lw_m1 178 rfl) rfl
theorem q201 : (Jvm.Cond.selects "MicroLc3" ({ cls := "MicroLc3", name := "status", desc := "()I" } : Jvm.MethodName) ({ cls := "MicroLc3", name := "status", desc := "()I" } : Jvm.MethodName)) ∈ lw_all := lw_g (lw_at lw_m1 179 rfl) rfl
theorem q202 : (Jvm.Cond.code ({ cls := "MicroLc3", name := "status", desc := "()I" } : Jvm.MethodName) prog_1_method_14_code (1 : Nat) (Option.some Jvm.ClassFile.FieldType.int)) ∈ lw_all := lw_g (lw_at lw_m1 180 rfl) rfl
theorem q204 : (Jvm.Cond.instanceMethod ({ cls := "MicroLc3", name := "count", desc := "()I" } : Jvm.MethodName)) ∈ lw_all := lw_g (lw_at lw_m1 182 rfl) rfl
theorem q205 : (Jvm.Cond.selects "MicroLc3" ({ cls := "MicroLc3", name := "count", desc := "()I" } : Jvm.MethodName) ({ cls := "MicroLc3", name := "count", desc := "()I" } : Jvm.MethodName)) ∈ lw_all := lw_g (lw_at lw_m1 183 rfl) rfl
theorem q206 : (Jvm.Cond.code ({ cls := "MicroLc3", name := "count", desc := "()I" } : Jvm.MethodName) prog_1_method_15_code (1 : Nat) (Option.some Jvm.ClassFile.FieldType.int)) ∈ lw_all := lw_g (lw_at lw_m1 184 rfl) rfl
theorem in_X0 : ∀ w ∈ wsX00, w ∈ lw_all := lw_in wsX00 [86, 88, 90, 92, 94, 96, 98, 100, 102, 104, 106] (by decide +kernel) (by decide +kernel)
end
section
/-! MicroLc3Model -/
set_option maxRecDepth 100000
def RX1 : String := "MicroLc3Model"
def TX1 : u_T := fun k => match k with
  | 0 => ("MicroLc3Model", "regs", "[I", false)
  | 1 => ("MicroLc3Model", "cells", "[I", false)
  | 2 => ("MicroLc3Model", "pc", "I", false)
  | 3 => ("MicroLc3Model", "sign", "I", false)
  | 4 => ("MicroLc3Model", "status", "I", false)
  | _ => ("MicroLc3Model", "count", "I", false)
def tyX1 : Nat → FieldType := fun k => match k with
  | 0 => .array .int
  | 1 => .array .int
  | 2 => .int
  | 3 => .int
  | 4 => .int
  | _ => .int
abbrev wsX10 : List Cond := u_ws RX1 TX1 6
theorem nmX1 : ∀ a, a < 6 → ∀ b, b < 6 → a ≠ b → (TX1 a).2.1 ≠ (TX1 b).2.1 := by decide +kernel
theorem tyX1_ok : ∀ k, k < 6 → parseFieldDescriptor (TX1 k).2.2.1 = some (tyX1 k) := by decide +kernel
abbrev cX1_init : ByteArray := prog_3_method_1_code
def yX1_init : MethodName := ⟨RX1, "<init>", "()V"⟩
theorem dX1_init_0 : decode cX1_init 0 = .ok (.aload_n 0, 1) := by decide +kernel
theorem dX1_init_1 : decode cX1_init 1 = .ok (.invokespecial 1, 3) := by decide +kernel
theorem dX1_init_4 : decode cX1_init 4 = .ok (.aload_n 0, 1) := by decide +kernel
theorem dX1_init_5 : decode cX1_init 5 = .ok (.bipush 8, 2) := by decide +kernel
theorem dX1_init_7 : decode cX1_init 7 = .ok (.newarray .int, 2) := by decide +kernel
theorem dX1_init_9 : decode cX1_init 9 = .ok (.putfield 7, 3) := by decide +kernel
theorem dX1_init_12 : decode cX1_init 12 = .ok (.aload_n 0, 1) := by decide +kernel
theorem dX1_init_13 : decode cX1_init 13 = .ok (.bipush 64, 2) := by decide +kernel
theorem dX1_init_15 : decode cX1_init 15 = .ok (.newarray .int, 2) := by decide +kernel
theorem dX1_init_17 : decode cX1_init 17 = .ok (.putfield 13, 3) := by decide +kernel
theorem dX1_init_20 : decode cX1_init 20 = .ok (.aload_n 0, 1) := by decide +kernel
theorem dX1_init_21 : decode cX1_init 21 = .ok (.iconst 0, 1) := by decide +kernel
theorem dX1_init_22 : decode cX1_init 22 = .ok (.putfield 16, 3) := by decide +kernel
theorem dX1_init_25 : decode cX1_init 25 = .ok (.aload_n 0, 1) := by decide +kernel
theorem dX1_init_26 : decode cX1_init 26 = .ok (.iconst 0, 1) := by decide +kernel
theorem dX1_init_27 : decode cX1_init 27 = .ok (.putfield 20, 3) := by decide +kernel
theorem dX1_init_30 : decode cX1_init 30 = .ok (.aload_n 0, 1) := by decide +kernel
theorem dX1_init_31 : decode cX1_init 31 = .ok (.iconst 0, 1) := by decide +kernel
theorem dX1_init_32 : decode cX1_init 32 = .ok (.putfield 23, 3) := by decide +kernel
theorem dX1_init_35 : decode cX1_init 35 = .ok (.aload_n 0, 1) := by decide +kernel
theorem dX1_init_36 : decode cX1_init 36 = .ok (.iconst 0, 1) := by decide +kernel
theorem dX1_init_37 : decode cX1_init 37 = .ok (.putfield 26, 3) := by decide +kernel
theorem dX1_init_40 : decode cX1_init 40 = .ok (.return_, 1) := by decide +kernel
abbrev cX1_poke : ByteArray := prog_3_method_3_code
def yX1_poke : MethodName := ⟨RX1, "poke", "(II)Z"⟩
theorem dX1_poke_0 : decode cX1_poke 0 = .ok (.iload_n 1, 1) := by decide +kernel
theorem dX1_poke_1 : decode cX1_poke 1 = .ok (.ifCond .lt 17, 3) := by decide +kernel
theorem dX1_poke_4 : decode cX1_poke 4 = .ok (.iload_n 1, 1) := by decide +kernel
theorem dX1_poke_5 : decode cX1_poke 5 = .ok (.bipush 63, 2) := by decide +kernel
theorem dX1_poke_7 : decode cX1_poke 7 = .ok (.if_icmp .gt 11, 3) := by decide +kernel
theorem dX1_poke_10 : decode cX1_poke 10 = .ok (.aload_n 0, 1) := by decide +kernel
theorem dX1_poke_11 : decode cX1_poke 11 = .ok (.iload_n 2, 1) := by decide +kernel
theorem dX1_poke_12 : decode cX1_poke 12 = .ok (.invokevirtual 30, 3) := by decide +kernel
theorem dX1_poke_15 : decode cX1_poke 15 = .ok (.ifCond .ne 5, 3) := by decide +kernel
theorem dX1_poke_18 : decode cX1_poke 18 = .ok (.iconst 0, 1) := by decide +kernel
theorem dX1_poke_19 : decode cX1_poke 19 = .ok (.ireturn, 1) := by decide +kernel
theorem dX1_poke_20 : decode cX1_poke 20 = .ok (.aload_n 0, 1) := by decide +kernel
theorem dX1_poke_21 : decode cX1_poke 21 = .ok (.getfield 13, 3) := by decide +kernel
theorem dX1_poke_24 : decode cX1_poke 24 = .ok (.iload_n 1, 1) := by decide +kernel
theorem dX1_poke_25 : decode cX1_poke 25 = .ok (.iload_n 2, 1) := by decide +kernel
theorem dX1_poke_26 : decode cX1_poke 26 = .ok (.iastore, 1) := by decide +kernel
theorem dX1_poke_27 : decode cX1_poke 27 = .ok (.iconst 1, 1) := by decide +kernel
theorem dX1_poke_28 : decode cX1_poke 28 = .ok (.ireturn, 1) := by decide +kernel
abbrev cX1_isWord : ByteArray := prog_3_method_2_code
def yX1_isWord : MethodName := ⟨RX1, "isWord", "(I)Z"⟩
theorem dX1_isWord_0 : decode cX1_isWord 0 = .ok (.iload_n 1, 1) := by decide +kernel
theorem dX1_isWord_1 : decode cX1_isWord 1 = .ok (.ifCond .lt 13, 3) := by decide +kernel
theorem dX1_isWord_4 : decode cX1_isWord 4 = .ok (.iload_n 1, 1) := by decide +kernel
theorem dX1_isWord_5 : decode cX1_isWord 5 = .ok (.ldc 29, 2) := by decide +kernel
theorem dX1_isWord_7 : decode cX1_isWord 7 = .ok (.if_icmp .gt 7, 3) := by decide +kernel
theorem dX1_isWord_10 : decode cX1_isWord 10 = .ok (.iconst 1, 1) := by decide +kernel
theorem dX1_isWord_11 : decode cX1_isWord 11 = .ok (.goto 4, 3) := by decide +kernel
theorem dX1_isWord_14 : decode cX1_isWord 14 = .ok (.iconst 0, 1) := by decide +kernel
theorem dX1_isWord_15 : decode cX1_isWord 15 = .ok (.ireturn, 1) := by decide +kernel
abbrev cX1_peek : ByteArray := prog_3_method_4_code
def yX1_peek : MethodName := ⟨RX1, "peek", "(I)I"⟩
theorem dX1_peek_0 : decode cX1_peek 0 = .ok (.iload_n 1, 1) := by decide +kernel
theorem dX1_peek_1 : decode cX1_peek 1 = .ok (.ifCond .lt 18, 3) := by decide +kernel
theorem dX1_peek_4 : decode cX1_peek 4 = .ok (.iload_n 1, 1) := by decide +kernel
theorem dX1_peek_5 : decode cX1_peek 5 = .ok (.bipush 63, 2) := by decide +kernel
theorem dX1_peek_7 : decode cX1_peek 7 = .ok (.if_icmp .gt 12, 3) := by decide +kernel
theorem dX1_peek_10 : decode cX1_peek 10 = .ok (.aload_n 0, 1) := by decide +kernel
theorem dX1_peek_11 : decode cX1_peek 11 = .ok (.getfield 13, 3) := by decide +kernel
theorem dX1_peek_14 : decode cX1_peek 14 = .ok (.iload_n 1, 1) := by decide +kernel
theorem dX1_peek_15 : decode cX1_peek 15 = .ok (.iaload, 1) := by decide +kernel
theorem dX1_peek_16 : decode cX1_peek 16 = .ok (.goto 4, 3) := by decide +kernel
theorem dX1_peek_19 : decode cX1_peek 19 = .ok (.iconst (-1), 1) := by decide +kernel
theorem dX1_peek_20 : decode cX1_peek 20 = .ok (.ireturn, 1) := by decide +kernel
abbrev cX1_setRegister : ByteArray := prog_3_method_5_code
def yX1_setRegister : MethodName := ⟨RX1, "setRegister", "(II)Z"⟩
theorem dX1_setRegister_0 : decode cX1_setRegister 0 = .ok (.iload_n 1, 1) := by decide +kernel
theorem dX1_setRegister_1 : decode cX1_setRegister 1 = .ok (.ifCond .lt 17, 3) := by decide +kernel
theorem dX1_setRegister_4 : decode cX1_setRegister 4 = .ok (.iload_n 1, 1) := by decide +kernel
theorem dX1_setRegister_5 : decode cX1_setRegister 5 = .ok (.bipush 7, 2) := by decide +kernel
theorem dX1_setRegister_7 : decode cX1_setRegister 7 = .ok (.if_icmp .gt 11, 3) := by decide +kernel
theorem dX1_setRegister_10 : decode cX1_setRegister 10 = .ok (.aload_n 0, 1) := by decide +kernel
theorem dX1_setRegister_11 : decode cX1_setRegister 11 = .ok (.iload_n 2, 1) := by decide +kernel
theorem dX1_setRegister_12 : decode cX1_setRegister 12 = .ok (.invokevirtual 30, 3) := by decide +kernel
theorem dX1_setRegister_15 : decode cX1_setRegister 15 = .ok (.ifCond .ne 5, 3) := by decide +kernel
theorem dX1_setRegister_18 : decode cX1_setRegister 18 = .ok (.iconst 0, 1) := by decide +kernel
theorem dX1_setRegister_19 : decode cX1_setRegister 19 = .ok (.ireturn, 1) := by decide +kernel
theorem dX1_setRegister_20 : decode cX1_setRegister 20 = .ok (.aload_n 0, 1) := by decide +kernel
theorem dX1_setRegister_21 : decode cX1_setRegister 21 = .ok (.getfield 7, 3) := by decide +kernel
theorem dX1_setRegister_24 : decode cX1_setRegister 24 = .ok (.iload_n 1, 1) := by decide +kernel
theorem dX1_setRegister_25 : decode cX1_setRegister 25 = .ok (.iload_n 2, 1) := by decide +kernel
theorem dX1_setRegister_26 : decode cX1_setRegister 26 = .ok (.iastore, 1) := by decide +kernel
theorem dX1_setRegister_27 : decode cX1_setRegister 27 = .ok (.iconst 1, 1) := by decide +kernel
theorem dX1_setRegister_28 : decode cX1_setRegister 28 = .ok (.ireturn, 1) := by decide +kernel
abbrev cX1_register : ByteArray := prog_3_method_6_code
def yX1_register : MethodName := ⟨RX1, "register", "(I)I"⟩
theorem dX1_register_0 : decode cX1_register 0 = .ok (.iload_n 1, 1) := by decide +kernel
theorem dX1_register_1 : decode cX1_register 1 = .ok (.ifCond .lt 18, 3) := by decide +kernel
theorem dX1_register_4 : decode cX1_register 4 = .ok (.iload_n 1, 1) := by decide +kernel
theorem dX1_register_5 : decode cX1_register 5 = .ok (.bipush 7, 2) := by decide +kernel
theorem dX1_register_7 : decode cX1_register 7 = .ok (.if_icmp .gt 12, 3) := by decide +kernel
theorem dX1_register_10 : decode cX1_register 10 = .ok (.aload_n 0, 1) := by decide +kernel
theorem dX1_register_11 : decode cX1_register 11 = .ok (.getfield 7, 3) := by decide +kernel
theorem dX1_register_14 : decode cX1_register 14 = .ok (.iload_n 1, 1) := by decide +kernel
theorem dX1_register_15 : decode cX1_register 15 = .ok (.iaload, 1) := by decide +kernel
theorem dX1_register_16 : decode cX1_register 16 = .ok (.goto 4, 3) := by decide +kernel
theorem dX1_register_19 : decode cX1_register 19 = .ok (.iconst (-1), 1) := by decide +kernel
theorem dX1_register_20 : decode cX1_register 20 = .ok (.ireturn, 1) := by decide +kernel
abbrev cX1_start : ByteArray := prog_3_method_7_code
def yX1_start : MethodName := ⟨RX1, "start", "(I)Z"⟩
theorem dX1_start_0 : decode cX1_start 0 = .ok (.aload_n 0, 1) := by decide +kernel
theorem dX1_start_1 : decode cX1_start 1 = .ok (.iload_n 1, 1) := by decide +kernel
theorem dX1_start_2 : decode cX1_start 2 = .ok (.invokevirtual 30, 3) := by decide +kernel
theorem dX1_start_5 : decode cX1_start 5 = .ok (.ifCond .ne 5, 3) := by decide +kernel
theorem dX1_start_8 : decode cX1_start 8 = .ok (.iconst 0, 1) := by decide +kernel
theorem dX1_start_9 : decode cX1_start 9 = .ok (.ireturn, 1) := by decide +kernel
theorem dX1_start_10 : decode cX1_start 10 = .ok (.aload_n 0, 1) := by decide +kernel
theorem dX1_start_11 : decode cX1_start 11 = .ok (.iload_n 1, 1) := by decide +kernel
theorem dX1_start_12 : decode cX1_start 12 = .ok (.putfield 16, 3) := by decide +kernel
theorem dX1_start_15 : decode cX1_start 15 = .ok (.aload_n 0, 1) := by decide +kernel
theorem dX1_start_16 : decode cX1_start 16 = .ok (.iconst 0, 1) := by decide +kernel
theorem dX1_start_17 : decode cX1_start 17 = .ok (.putfield 23, 3) := by decide +kernel
theorem dX1_start_20 : decode cX1_start 20 = .ok (.iconst 1, 1) := by decide +kernel
theorem dX1_start_21 : decode cX1_start 21 = .ok (.ireturn, 1) := by decide +kernel
abbrev cX1_step : ByteArray := prog_3_method_16_code
def yX1_step : MethodName := ⟨RX1, "step", "(I)I"⟩
theorem dX1_step_0 : decode cX1_step 0 = .ok (.iload_n 1, 1) := by decide +kernel
theorem dX1_step_1 : decode cX1_step 1 = .ok (.ifCond .ge 7, 3) := by decide +kernel
theorem dX1_step_4 : decode cX1_step 4 = .ok (.iconst 0, 1) := by decide +kernel
theorem dX1_step_5 : decode cX1_step 5 = .ok (.goto 15, 3) := by decide +kernel
theorem dX1_step_8 : decode cX1_step 8 = .ok (.iload_n 1, 1) := by decide +kernel
theorem dX1_step_9 : decode cX1_step 9 = .ok (.bipush 100, 2) := by decide +kernel
theorem dX1_step_11 : decode cX1_step 11 = .ok (.if_icmp .le 8, 3) := by decide +kernel
theorem dX1_step_14 : decode cX1_step 14 = .ok (.bipush 100, 2) := by decide +kernel
theorem dX1_step_16 : decode cX1_step 16 = .ok (.goto 4, 3) := by decide +kernel
theorem dX1_step_19 : decode cX1_step 19 = .ok (.iload_n 1, 1) := by decide +kernel
theorem dX1_step_20 : decode cX1_step 20 = .ok (.istore_n 2, 1) := by decide +kernel
theorem dX1_step_21 : decode cX1_step 21 = .ok (.iconst 0, 1) := by decide +kernel
theorem dX1_step_22 : decode cX1_step 22 = .ok (.istore_n 3, 1) := by decide +kernel
theorem dX1_step_23 : decode cX1_step 23 = .ok (.iconst 0, 1) := by decide +kernel
theorem dX1_step_24 : decode cX1_step 24 = .ok (.istore 4, 2) := by decide +kernel
theorem dX1_step_26 : decode cX1_step 26 = .ok (.iload 4, 2) := by decide +kernel
theorem dX1_step_28 : decode cX1_step 28 = .ok (.iload_n 2, 1) := by decide +kernel
theorem dX1_step_29 : decode cX1_step 29 = .ok (.if_icmp .ge 23, 3) := by decide +kernel
theorem dX1_step_32 : decode cX1_step 32 = .ok (.aload_n 0, 1) := by decide +kernel
theorem dX1_step_33 : decode cX1_step 33 = .ok (.getfield 23, 3) := by decide +kernel
theorem dX1_step_36 : decode cX1_step 36 = .ok (.ifCond .ne 16, 3) := by decide +kernel
theorem dX1_step_39 : decode cX1_step 39 = .ok (.aload_n 0, 1) := by decide +kernel
theorem dX1_step_40 : decode cX1_step 40 = .ok (.invokevirtual 58, 3) := by decide +kernel
theorem dX1_step_43 : decode cX1_step 43 = .ok (.iinc 3 1, 3) := by decide +kernel
theorem dX1_step_46 : decode cX1_step 46 = .ok (.iinc 4 1, 3) := by decide +kernel
theorem dX1_step_49 : decode cX1_step 49 = .ok (.goto (-23), 3) := by decide +kernel
theorem dX1_step_52 : decode cX1_step 52 = .ok (.aload_n 0, 1) := by decide +kernel
theorem dX1_step_53 : decode cX1_step 53 = .ok (.dup, 1) := by decide +kernel
theorem dX1_step_54 : decode cX1_step 54 = .ok (.getfield 26, 3) := by decide +kernel
theorem dX1_step_57 : decode cX1_step 57 = .ok (.iload_n 3, 1) := by decide +kernel
theorem dX1_step_58 : decode cX1_step 58 = .ok (.iadd, 1) := by decide +kernel
theorem dX1_step_59 : decode cX1_step 59 = .ok (.putfield 26, 3) := by decide +kernel
theorem dX1_step_62 : decode cX1_step 62 = .ok (.iload_n 3, 1) := by decide +kernel
theorem dX1_step_63 : decode cX1_step 63 = .ok (.ireturn, 1) := by decide +kernel
abbrev cX1_execute : ByteArray := prog_3_method_15_code
def yX1_execute : MethodName := ⟨RX1, "execute", "()V"⟩
theorem dX1_execute_0 : decode cX1_execute 0 = .ok (.aload_n 0, 1) := by decide +kernel
theorem dX1_execute_1 : decode cX1_execute 1 = .ok (.getfield 13, 3) := by decide +kernel
theorem dX1_execute_4 : decode cX1_execute 4 = .ok (.aload_n 0, 1) := by decide +kernel
theorem dX1_execute_5 : decode cX1_execute 5 = .ok (.getfield 16, 3) := by decide +kernel
theorem dX1_execute_8 : decode cX1_execute 8 = .ok (.bipush 63, 2) := by decide +kernel
theorem dX1_execute_10 : decode cX1_execute 10 = .ok (.iand, 1) := by decide +kernel
theorem dX1_execute_11 : decode cX1_execute 11 = .ok (.iaload, 1) := by decide +kernel
theorem dX1_execute_12 : decode cX1_execute 12 = .ok (.istore_n 1, 1) := by decide +kernel
theorem dX1_execute_13 : decode cX1_execute 13 = .ok (.iload_n 1, 1) := by decide +kernel
theorem dX1_execute_14 : decode cX1_execute 14 = .ok (.bipush 12, 2) := by decide +kernel
theorem dX1_execute_16 : decode cX1_execute 16 = .ok (.ishr, 1) := by decide +kernel
theorem dX1_execute_17 : decode cX1_execute 17 = .ok (.istore_n 2, 1) := by decide +kernel
theorem dX1_execute_18 : decode cX1_execute 18 = .ok (.aload_n 0, 1) := by decide +kernel
theorem dX1_execute_19 : decode cX1_execute 19 = .ok (.aload_n 0, 1) := by decide +kernel
theorem dX1_execute_20 : decode cX1_execute 20 = .ok (.aload_n 0, 1) := by decide +kernel
theorem dX1_execute_21 : decode cX1_execute 21 = .ok (.getfield 16, 3) := by decide +kernel
theorem dX1_execute_24 : decode cX1_execute 24 = .ok (.iconst 1, 1) := by decide +kernel
theorem dX1_execute_25 : decode cX1_execute 25 = .ok (.iadd, 1) := by decide +kernel
theorem dX1_execute_26 : decode cX1_execute 26 = .ok (.invokevirtual 34, 3) := by decide +kernel
theorem dX1_execute_29 : decode cX1_execute 29 = .ok (.putfield 16, 3) := by decide +kernel
theorem dX1_execute_32 : decode cX1_execute 32 = .ok (.aload_n 0, 1) := by decide +kernel
theorem dX1_execute_33 : decode cX1_execute 33 = .ok (.iload_n 2, 1) := by decide +kernel
theorem dX1_execute_34 : decode cX1_execute 34 = .ok (.iload_n 1, 1) := by decide +kernel
theorem dX1_execute_35 : decode cX1_execute 35 = .ok (.invokevirtual 49, 3) := by decide +kernel
theorem dX1_execute_38 : decode cX1_execute 38 = .ok (.aload_n 0, 1) := by decide +kernel
theorem dX1_execute_39 : decode cX1_execute 39 = .ok (.iload_n 2, 1) := by decide +kernel
theorem dX1_execute_40 : decode cX1_execute 40 = .ok (.iload_n 1, 1) := by decide +kernel
theorem dX1_execute_41 : decode cX1_execute 41 = .ok (.invokevirtual 52, 3) := by decide +kernel
theorem dX1_execute_44 : decode cX1_execute 44 = .ok (.aload_n 0, 1) := by decide +kernel
theorem dX1_execute_45 : decode cX1_execute 45 = .ok (.iload_n 2, 1) := by decide +kernel
theorem dX1_execute_46 : decode cX1_execute 46 = .ok (.iload_n 1, 1) := by decide +kernel
theorem dX1_execute_47 : decode cX1_execute 47 = .ok (.invokevirtual 55, 3) := by decide +kernel
theorem dX1_execute_50 : decode cX1_execute 50 = .ok (.return_, 1) := by decide +kernel
abbrev cX1_word : ByteArray := prog_3_method_9_code
def yX1_word : MethodName := ⟨RX1, "word", "(I)I"⟩
theorem dX1_word_0 : decode cX1_word 0 = .ok (.iload_n 1, 1) := by decide +kernel
theorem dX1_word_1 : decode cX1_word 1 = .ok (.ldc 29, 2) := by decide +kernel
theorem dX1_word_3 : decode cX1_word 3 = .ok (.iand, 1) := by decide +kernel
theorem dX1_word_4 : decode cX1_word 4 = .ok (.ireturn, 1) := by decide +kernel
abbrev cX1_calculate : ByteArray := prog_3_method_12_code
def yX1_calculate : MethodName := ⟨RX1, "calculate", "(II)V"⟩
theorem dX1_calculate_0 : decode cX1_calculate 0 = .ok (.iload_n 2, 1) := by decide +kernel
theorem dX1_calculate_1 : decode cX1_calculate 1 = .ok (.bipush 9, 2) := by decide +kernel
theorem dX1_calculate_3 : decode cX1_calculate 3 = .ok (.ishr, 1) := by decide +kernel
theorem dX1_calculate_4 : decode cX1_calculate 4 = .ok (.bipush 7, 2) := by decide +kernel
theorem dX1_calculate_6 : decode cX1_calculate 6 = .ok (.iand, 1) := by decide +kernel
theorem dX1_calculate_7 : decode cX1_calculate 7 = .ok (.istore_n 3, 1) := by decide +kernel
theorem dX1_calculate_8 : decode cX1_calculate 8 = .ok (.iload_n 2, 1) := by decide +kernel
theorem dX1_calculate_9 : decode cX1_calculate 9 = .ok (.bipush 6, 2) := by decide +kernel
theorem dX1_calculate_11 : decode cX1_calculate 11 = .ok (.ishr, 1) := by decide +kernel
theorem dX1_calculate_12 : decode cX1_calculate 12 = .ok (.bipush 7, 2) := by decide +kernel
theorem dX1_calculate_14 : decode cX1_calculate 14 = .ok (.iand, 1) := by decide +kernel
theorem dX1_calculate_15 : decode cX1_calculate 15 = .ok (.istore 4, 2) := by decide +kernel
theorem dX1_calculate_17 : decode cX1_calculate 17 = .ok (.iload_n 2, 1) := by decide +kernel
theorem dX1_calculate_18 : decode cX1_calculate 18 = .ok (.iconst 5, 1) := by decide +kernel
theorem dX1_calculate_19 : decode cX1_calculate 19 = .ok (.ishr, 1) := by decide +kernel
theorem dX1_calculate_20 : decode cX1_calculate 20 = .ok (.iconst 1, 1) := by decide +kernel
theorem dX1_calculate_21 : decode cX1_calculate 21 = .ok (.iand, 1) := by decide +kernel
theorem dX1_calculate_22 : decode cX1_calculate 22 = .ok (.ifCond .ne 15, 3) := by decide +kernel
theorem dX1_calculate_25 : decode cX1_calculate 25 = .ok (.aload_n 0, 1) := by decide +kernel
theorem dX1_calculate_26 : decode cX1_calculate 26 = .ok (.getfield 7, 3) := by decide +kernel
theorem dX1_calculate_29 : decode cX1_calculate 29 = .ok (.iload_n 2, 1) := by decide +kernel
theorem dX1_calculate_30 : decode cX1_calculate 30 = .ok (.bipush 7, 2) := by decide +kernel
theorem dX1_calculate_32 : decode cX1_calculate 32 = .ok (.iand, 1) := by decide +kernel
theorem dX1_calculate_33 : decode cX1_calculate 33 = .ok (.iaload, 1) := by decide +kernel
theorem dX1_calculate_34 : decode cX1_calculate 34 = .ok (.goto 9, 3) := by decide +kernel
theorem dX1_calculate_37 : decode cX1_calculate 37 = .ok (.aload_n 0, 1) := by decide +kernel
theorem dX1_calculate_38 : decode cX1_calculate 38 = .ok (.iload_n 2, 1) := by decide +kernel
theorem dX1_calculate_39 : decode cX1_calculate 39 = .ok (.iconst 5, 1) := by decide +kernel
theorem dX1_calculate_40 : decode cX1_calculate 40 = .ok (.invokevirtual 38, 3) := by decide +kernel
theorem dX1_calculate_43 : decode cX1_calculate 43 = .ok (.istore 5, 2) := by decide +kernel
theorem dX1_calculate_45 : decode cX1_calculate 45 = .ok (.aload_n 0, 1) := by decide +kernel
theorem dX1_calculate_46 : decode cX1_calculate 46 = .ok (.iload_n 2, 1) := by decide +kernel
theorem dX1_calculate_47 : decode cX1_calculate 47 = .ok (.bipush 9, 2) := by decide +kernel
theorem dX1_calculate_49 : decode cX1_calculate 49 = .ok (.invokevirtual 38, 3) := by decide +kernel
theorem dX1_calculate_52 : decode cX1_calculate 52 = .ok (.istore 6, 2) := by decide +kernel
theorem dX1_calculate_54 : decode cX1_calculate 54 = .ok (.iload_n 1, 1) := by decide +kernel
theorem dX1_calculate_55 : decode cX1_calculate 55 = .ok (.iconst 1, 1) := by decide +kernel
theorem dX1_calculate_56 : decode cX1_calculate 56 = .ok (.if_icmp .ne 18, 3) := by decide +kernel
theorem dX1_calculate_59 : decode cX1_calculate 59 = .ok (.aload_n 0, 1) := by decide +kernel
theorem dX1_calculate_60 : decode cX1_calculate 60 = .ok (.iload_n 3, 1) := by decide +kernel
theorem dX1_calculate_61 : decode cX1_calculate 61 = .ok (.aload_n 0, 1) := by decide +kernel
theorem dX1_calculate_62 : decode cX1_calculate 62 = .ok (.getfield 7, 3) := by decide +kernel
theorem dX1_calculate_65 : decode cX1_calculate 65 = .ok (.iload 4, 2) := by decide +kernel
theorem dX1_calculate_67 : decode cX1_calculate 67 = .ok (.iaload, 1) := by decide +kernel
theorem dX1_calculate_68 : decode cX1_calculate 68 = .ok (.iload 5, 2) := by decide +kernel
theorem dX1_calculate_70 : decode cX1_calculate 70 = .ok (.iadd, 1) := by decide +kernel
theorem dX1_calculate_71 : decode cX1_calculate 71 = .ok (.invokevirtual 42, 3) := by decide +kernel
theorem dX1_calculate_74 : decode cX1_calculate 74 = .ok (.iload_n 1, 1) := by decide +kernel
theorem dX1_calculate_75 : decode cX1_calculate 75 = .ok (.iconst 5, 1) := by decide +kernel
theorem dX1_calculate_76 : decode cX1_calculate 76 = .ok (.if_icmp .ne 18, 3) := by decide +kernel
theorem dX1_calculate_79 : decode cX1_calculate 79 = .ok (.aload_n 0, 1) := by decide +kernel
theorem dX1_calculate_80 : decode cX1_calculate 80 = .ok (.iload_n 3, 1) := by decide +kernel
theorem dX1_calculate_81 : decode cX1_calculate 81 = .ok (.aload_n 0, 1) := by decide +kernel
theorem dX1_calculate_82 : decode cX1_calculate 82 = .ok (.getfield 7, 3) := by decide +kernel
theorem dX1_calculate_85 : decode cX1_calculate 85 = .ok (.iload 4, 2) := by decide +kernel
theorem dX1_calculate_87 : decode cX1_calculate 87 = .ok (.iaload, 1) := by decide +kernel
theorem dX1_calculate_88 : decode cX1_calculate 88 = .ok (.iload 5, 2) := by decide +kernel
theorem dX1_calculate_90 : decode cX1_calculate 90 = .ok (.iand, 1) := by decide +kernel
theorem dX1_calculate_91 : decode cX1_calculate 91 = .ok (.invokevirtual 42, 3) := by decide +kernel
theorem dX1_calculate_94 : decode cX1_calculate 94 = .ok (.iload_n 1, 1) := by decide +kernel
theorem dX1_calculate_95 : decode cX1_calculate 95 = .ok (.bipush 9, 2) := by decide +kernel
theorem dX1_calculate_97 : decode cX1_calculate 97 = .ok (.if_icmp .ne 18, 3) := by decide +kernel
theorem dX1_calculate_100 : decode cX1_calculate 100 = .ok (.aload_n 0, 1) := by decide +kernel
theorem dX1_calculate_101 : decode cX1_calculate 101 = .ok (.iload_n 3, 1) := by decide +kernel
theorem dX1_calculate_102 : decode cX1_calculate 102 = .ok (.ldc 29, 2) := by decide +kernel
theorem dX1_calculate_104 : decode cX1_calculate 104 = .ok (.aload_n 0, 1) := by decide +kernel
theorem dX1_calculate_105 : decode cX1_calculate 105 = .ok (.getfield 7, 3) := by decide +kernel
theorem dX1_calculate_108 : decode cX1_calculate 108 = .ok (.iload 4, 2) := by decide +kernel
theorem dX1_calculate_110 : decode cX1_calculate 110 = .ok (.iaload, 1) := by decide +kernel
theorem dX1_calculate_111 : decode cX1_calculate 111 = .ok (.isub, 1) := by decide +kernel
theorem dX1_calculate_112 : decode cX1_calculate 112 = .ok (.invokevirtual 42, 3) := by decide +kernel
theorem dX1_calculate_115 : decode cX1_calculate 115 = .ok (.iload_n 1, 1) := by decide +kernel
theorem dX1_calculate_116 : decode cX1_calculate 116 = .ok (.bipush 14, 2) := by decide +kernel
theorem dX1_calculate_118 : decode cX1_calculate 118 = .ok (.if_icmp .ne 15, 3) := by decide +kernel
theorem dX1_calculate_121 : decode cX1_calculate 121 = .ok (.aload_n 0, 1) := by decide +kernel
theorem dX1_calculate_122 : decode cX1_calculate 122 = .ok (.iload_n 3, 1) := by decide +kernel
theorem dX1_calculate_123 : decode cX1_calculate 123 = .ok (.aload_n 0, 1) := by decide +kernel
theorem dX1_calculate_124 : decode cX1_calculate 124 = .ok (.getfield 16, 3) := by decide +kernel
theorem dX1_calculate_127 : decode cX1_calculate 127 = .ok (.iload 6, 2) := by decide +kernel
theorem dX1_calculate_129 : decode cX1_calculate 129 = .ok (.iadd, 1) := by decide +kernel
theorem dX1_calculate_130 : decode cX1_calculate 130 = .ok (.invokevirtual 42, 3) := by decide +kernel
theorem dX1_calculate_133 : decode cX1_calculate 133 = .ok (.return_, 1) := by decide +kernel
abbrev cX1_signed : ByteArray := prog_3_method_8_code
def yX1_signed : MethodName := ⟨RX1, "signed", "(II)I"⟩
theorem dX1_signed_0 : decode cX1_signed 0 = .ok (.iload_n 1, 1) := by decide +kernel
theorem dX1_signed_1 : decode cX1_signed 1 = .ok (.iconst 1, 1) := by decide +kernel
theorem dX1_signed_2 : decode cX1_signed 2 = .ok (.iload_n 2, 1) := by decide +kernel
theorem dX1_signed_3 : decode cX1_signed 3 = .ok (.ishl, 1) := by decide +kernel
theorem dX1_signed_4 : decode cX1_signed 4 = .ok (.irem, 1) := by decide +kernel
theorem dX1_signed_5 : decode cX1_signed 5 = .ok (.istore_n 3, 1) := by decide +kernel
theorem dX1_signed_6 : decode cX1_signed 6 = .ok (.iload_n 3, 1) := by decide +kernel
theorem dX1_signed_7 : decode cX1_signed 7 = .ok (.iconst 1, 1) := by decide +kernel
theorem dX1_signed_8 : decode cX1_signed 8 = .ok (.iload_n 2, 1) := by decide +kernel
theorem dX1_signed_9 : decode cX1_signed 9 = .ok (.iconst 1, 1) := by decide +kernel
theorem dX1_signed_10 : decode cX1_signed 10 = .ok (.isub, 1) := by decide +kernel
theorem dX1_signed_11 : decode cX1_signed 11 = .ok (.ishl, 1) := by decide +kernel
theorem dX1_signed_12 : decode cX1_signed 12 = .ok (.if_icmp .lt 11, 3) := by decide +kernel
theorem dX1_signed_15 : decode cX1_signed 15 = .ok (.iload_n 3, 1) := by decide +kernel
theorem dX1_signed_16 : decode cX1_signed 16 = .ok (.iconst 1, 1) := by decide +kernel
theorem dX1_signed_17 : decode cX1_signed 17 = .ok (.iload_n 2, 1) := by decide +kernel
theorem dX1_signed_18 : decode cX1_signed 18 = .ok (.ishl, 1) := by decide +kernel
theorem dX1_signed_19 : decode cX1_signed 19 = .ok (.isub, 1) := by decide +kernel
theorem dX1_signed_20 : decode cX1_signed 20 = .ok (.goto 4, 3) := by decide +kernel
theorem dX1_signed_23 : decode cX1_signed 23 = .ok (.iload_n 3, 1) := by decide +kernel
theorem dX1_signed_24 : decode cX1_signed 24 = .ok (.ireturn, 1) := by decide +kernel
abbrev cX1_give : ByteArray := prog_3_method_10_code
def yX1_give : MethodName := ⟨RX1, "give", "(II)V"⟩
theorem dX1_give_0 : decode cX1_give 0 = .ok (.aload_n 0, 1) := by decide +kernel
theorem dX1_give_1 : decode cX1_give 1 = .ok (.getfield 7, 3) := by decide +kernel
theorem dX1_give_4 : decode cX1_give 4 = .ok (.iload_n 1, 1) := by decide +kernel
theorem dX1_give_5 : decode cX1_give 5 = .ok (.aload_n 0, 1) := by decide +kernel
theorem dX1_give_6 : decode cX1_give 6 = .ok (.iload_n 2, 1) := by decide +kernel
theorem dX1_give_7 : decode cX1_give 7 = .ok (.invokevirtual 34, 3) := by decide +kernel
theorem dX1_give_10 : decode cX1_give 10 = .ok (.iastore, 1) := by decide +kernel
theorem dX1_give_11 : decode cX1_give 11 = .ok (.aload_n 0, 1) := by decide +kernel
theorem dX1_give_12 : decode cX1_give 12 = .ok (.aload_n 0, 1) := by decide +kernel
theorem dX1_give_13 : decode cX1_give 13 = .ok (.getfield 7, 3) := by decide +kernel
theorem dX1_give_16 : decode cX1_give 16 = .ok (.iload_n 1, 1) := by decide +kernel
theorem dX1_give_17 : decode cX1_give 17 = .ok (.iaload, 1) := by decide +kernel
theorem dX1_give_18 : decode cX1_give 18 = .ok (.bipush 16, 2) := by decide +kernel
theorem dX1_give_20 : decode cX1_give 20 = .ok (.invokevirtual 38, 3) := by decide +kernel
theorem dX1_give_23 : decode cX1_give 23 = .ok (.istore_n 3, 1) := by decide +kernel
theorem dX1_give_24 : decode cX1_give 24 = .ok (.aload_n 0, 1) := by decide +kernel
theorem dX1_give_25 : decode cX1_give 25 = .ok (.iload_n 3, 1) := by decide +kernel
theorem dX1_give_26 : decode cX1_give 26 = .ok (.ifCond .ge 7, 3) := by decide +kernel
theorem dX1_give_29 : decode cX1_give 29 = .ok (.iconst (-1), 1) := by decide +kernel
theorem dX1_give_30 : decode cX1_give 30 = .ok (.goto 12, 3) := by decide +kernel
theorem dX1_give_33 : decode cX1_give 33 = .ok (.iload_n 3, 1) := by decide +kernel
theorem dX1_give_34 : decode cX1_give 34 = .ok (.ifCond .le 7, 3) := by decide +kernel
theorem dX1_give_37 : decode cX1_give 37 = .ok (.iconst 1, 1) := by decide +kernel
theorem dX1_give_38 : decode cX1_give 38 = .ok (.goto 4, 3) := by decide +kernel
theorem dX1_give_41 : decode cX1_give 41 = .ok (.iconst 0, 1) := by decide +kernel
theorem dX1_give_42 : decode cX1_give 42 = .ok (.putfield 20, 3) := by decide +kernel
theorem dX1_give_45 : decode cX1_give 45 = .ok (.return_, 1) := by decide +kernel
abbrev cX1_move : ByteArray := prog_3_method_13_code
def yX1_move : MethodName := ⟨RX1, "move", "(II)V"⟩
theorem dX1_move_0 : decode cX1_move 0 = .ok (.iload_n 2, 1) := by decide +kernel
theorem dX1_move_1 : decode cX1_move 1 = .ok (.bipush 9, 2) := by decide +kernel
theorem dX1_move_3 : decode cX1_move 3 = .ok (.ishr, 1) := by decide +kernel
theorem dX1_move_4 : decode cX1_move 4 = .ok (.bipush 7, 2) := by decide +kernel
theorem dX1_move_6 : decode cX1_move 6 = .ok (.iand, 1) := by decide +kernel
theorem dX1_move_7 : decode cX1_move 7 = .ok (.istore_n 3, 1) := by decide +kernel
theorem dX1_move_8 : decode cX1_move 8 = .ok (.aload_n 0, 1) := by decide +kernel
theorem dX1_move_9 : decode cX1_move 9 = .ok (.getfield 16, 3) := by decide +kernel
theorem dX1_move_12 : decode cX1_move 12 = .ok (.aload_n 0, 1) := by decide +kernel
theorem dX1_move_13 : decode cX1_move 13 = .ok (.iload_n 2, 1) := by decide +kernel
theorem dX1_move_14 : decode cX1_move 14 = .ok (.bipush 9, 2) := by decide +kernel
theorem dX1_move_16 : decode cX1_move 16 = .ok (.invokevirtual 38, 3) := by decide +kernel
theorem dX1_move_19 : decode cX1_move 19 = .ok (.iadd, 1) := by decide +kernel
theorem dX1_move_20 : decode cX1_move 20 = .ok (.bipush 63, 2) := by decide +kernel
theorem dX1_move_22 : decode cX1_move 22 = .ok (.iand, 1) := by decide +kernel
theorem dX1_move_23 : decode cX1_move 23 = .ok (.istore 4, 2) := by decide +kernel
theorem dX1_move_25 : decode cX1_move 25 = .ok (.aload_n 0, 1) := by decide +kernel
theorem dX1_move_26 : decode cX1_move 26 = .ok (.getfield 7, 3) := by decide +kernel
theorem dX1_move_29 : decode cX1_move 29 = .ok (.iload_n 2, 1) := by decide +kernel
theorem dX1_move_30 : decode cX1_move 30 = .ok (.bipush 6, 2) := by decide +kernel
theorem dX1_move_32 : decode cX1_move 32 = .ok (.ishr, 1) := by decide +kernel
theorem dX1_move_33 : decode cX1_move 33 = .ok (.bipush 7, 2) := by decide +kernel
theorem dX1_move_35 : decode cX1_move 35 = .ok (.iand, 1) := by decide +kernel
theorem dX1_move_36 : decode cX1_move 36 = .ok (.iaload, 1) := by decide +kernel
theorem dX1_move_37 : decode cX1_move 37 = .ok (.aload_n 0, 1) := by decide +kernel
theorem dX1_move_38 : decode cX1_move 38 = .ok (.iload_n 2, 1) := by decide +kernel
theorem dX1_move_39 : decode cX1_move 39 = .ok (.bipush 6, 2) := by decide +kernel
theorem dX1_move_41 : decode cX1_move 41 = .ok (.invokevirtual 38, 3) := by decide +kernel
theorem dX1_move_44 : decode cX1_move 44 = .ok (.iadd, 1) := by decide +kernel
theorem dX1_move_45 : decode cX1_move 45 = .ok (.bipush 63, 2) := by decide +kernel
theorem dX1_move_47 : decode cX1_move 47 = .ok (.iand, 1) := by decide +kernel
theorem dX1_move_48 : decode cX1_move 48 = .ok (.istore 5, 2) := by decide +kernel
theorem dX1_move_50 : decode cX1_move 50 = .ok (.aload_n 0, 1) := by decide +kernel
theorem dX1_move_51 : decode cX1_move 51 = .ok (.getfield 13, 3) := by decide +kernel
theorem dX1_move_54 : decode cX1_move 54 = .ok (.iload 4, 2) := by decide +kernel
theorem dX1_move_56 : decode cX1_move 56 = .ok (.iaload, 1) := by decide +kernel
theorem dX1_move_57 : decode cX1_move 57 = .ok (.bipush 63, 2) := by decide +kernel
theorem dX1_move_59 : decode cX1_move 59 = .ok (.iand, 1) := by decide +kernel
theorem dX1_move_60 : decode cX1_move 60 = .ok (.istore 6, 2) := by decide +kernel
theorem dX1_move_62 : decode cX1_move 62 = .ok (.iload_n 1, 1) := by decide +kernel
theorem dX1_move_63 : decode cX1_move 63 = .ok (.iconst 2, 1) := by decide +kernel
theorem dX1_move_64 : decode cX1_move 64 = .ok (.if_icmp .ne 15, 3) := by decide +kernel
theorem dX1_move_67 : decode cX1_move 67 = .ok (.aload_n 0, 1) := by decide +kernel
theorem dX1_move_68 : decode cX1_move 68 = .ok (.iload_n 3, 1) := by decide +kernel
theorem dX1_move_69 : decode cX1_move 69 = .ok (.aload_n 0, 1) := by decide +kernel
theorem dX1_move_70 : decode cX1_move 70 = .ok (.getfield 13, 3) := by decide +kernel
theorem dX1_move_73 : decode cX1_move 73 = .ok (.iload 4, 2) := by decide +kernel
theorem dX1_move_75 : decode cX1_move 75 = .ok (.iaload, 1) := by decide +kernel
theorem dX1_move_76 : decode cX1_move 76 = .ok (.invokevirtual 42, 3) := by decide +kernel
theorem dX1_move_79 : decode cX1_move 79 = .ok (.iload_n 1, 1) := by decide +kernel
theorem dX1_move_80 : decode cX1_move 80 = .ok (.bipush 6, 2) := by decide +kernel
theorem dX1_move_82 : decode cX1_move 82 = .ok (.if_icmp .ne 15, 3) := by decide +kernel
theorem dX1_move_85 : decode cX1_move 85 = .ok (.aload_n 0, 1) := by decide +kernel
theorem dX1_move_86 : decode cX1_move 86 = .ok (.iload_n 3, 1) := by decide +kernel
theorem dX1_move_87 : decode cX1_move 87 = .ok (.aload_n 0, 1) := by decide +kernel
theorem dX1_move_88 : decode cX1_move 88 = .ok (.getfield 13, 3) := by decide +kernel
theorem dX1_move_91 : decode cX1_move 91 = .ok (.iload 5, 2) := by decide +kernel
theorem dX1_move_93 : decode cX1_move 93 = .ok (.iaload, 1) := by decide +kernel
theorem dX1_move_94 : decode cX1_move 94 = .ok (.invokevirtual 42, 3) := by decide +kernel
theorem dX1_move_97 : decode cX1_move 97 = .ok (.iload_n 1, 1) := by decide +kernel
theorem dX1_move_98 : decode cX1_move 98 = .ok (.bipush 10, 2) := by decide +kernel
theorem dX1_move_100 : decode cX1_move 100 = .ok (.if_icmp .ne 15, 3) := by decide +kernel
theorem dX1_move_103 : decode cX1_move 103 = .ok (.aload_n 0, 1) := by decide +kernel
theorem dX1_move_104 : decode cX1_move 104 = .ok (.iload_n 3, 1) := by decide +kernel
theorem dX1_move_105 : decode cX1_move 105 = .ok (.aload_n 0, 1) := by decide +kernel
theorem dX1_move_106 : decode cX1_move 106 = .ok (.getfield 13, 3) := by decide +kernel
theorem dX1_move_109 : decode cX1_move 109 = .ok (.iload 6, 2) := by decide +kernel
theorem dX1_move_111 : decode cX1_move 111 = .ok (.iaload, 1) := by decide +kernel
theorem dX1_move_112 : decode cX1_move 112 = .ok (.invokevirtual 42, 3) := by decide +kernel
theorem dX1_move_115 : decode cX1_move 115 = .ok (.iload_n 1, 1) := by decide +kernel
theorem dX1_move_116 : decode cX1_move 116 = .ok (.iconst 3, 1) := by decide +kernel
theorem dX1_move_117 : decode cX1_move 117 = .ok (.if_icmp .ne 16, 3) := by decide +kernel
theorem dX1_move_120 : decode cX1_move 120 = .ok (.aload_n 0, 1) := by decide +kernel
theorem dX1_move_121 : decode cX1_move 121 = .ok (.getfield 13, 3) := by decide +kernel
theorem dX1_move_124 : decode cX1_move 124 = .ok (.iload 4, 2) := by decide +kernel
theorem dX1_move_126 : decode cX1_move 126 = .ok (.aload_n 0, 1) := by decide +kernel
theorem dX1_move_127 : decode cX1_move 127 = .ok (.getfield 7, 3) := by decide +kernel
theorem dX1_move_130 : decode cX1_move 130 = .ok (.iload_n 3, 1) := by decide +kernel
theorem dX1_move_131 : decode cX1_move 131 = .ok (.iaload, 1) := by decide +kernel
theorem dX1_move_132 : decode cX1_move 132 = .ok (.iastore, 1) := by decide +kernel
theorem dX1_move_133 : decode cX1_move 133 = .ok (.iload_n 1, 1) := by decide +kernel
theorem dX1_move_134 : decode cX1_move 134 = .ok (.bipush 7, 2) := by decide +kernel
theorem dX1_move_136 : decode cX1_move 136 = .ok (.if_icmp .ne 16, 3) := by decide +kernel
theorem dX1_move_139 : decode cX1_move 139 = .ok (.aload_n 0, 1) := by decide +kernel
theorem dX1_move_140 : decode cX1_move 140 = .ok (.getfield 13, 3) := by decide +kernel
theorem dX1_move_143 : decode cX1_move 143 = .ok (.iload 5, 2) := by decide +kernel
theorem dX1_move_145 : decode cX1_move 145 = .ok (.aload_n 0, 1) := by decide +kernel
theorem dX1_move_146 : decode cX1_move 146 = .ok (.getfield 7, 3) := by decide +kernel
theorem dX1_move_149 : decode cX1_move 149 = .ok (.iload_n 3, 1) := by decide +kernel
theorem dX1_move_150 : decode cX1_move 150 = .ok (.iaload, 1) := by decide +kernel
theorem dX1_move_151 : decode cX1_move 151 = .ok (.iastore, 1) := by decide +kernel
theorem dX1_move_152 : decode cX1_move 152 = .ok (.iload_n 1, 1) := by decide +kernel
theorem dX1_move_153 : decode cX1_move 153 = .ok (.bipush 11, 2) := by decide +kernel
theorem dX1_move_155 : decode cX1_move 155 = .ok (.if_icmp .ne 16, 3) := by decide +kernel
theorem dX1_move_158 : decode cX1_move 158 = .ok (.aload_n 0, 1) := by decide +kernel
theorem dX1_move_159 : decode cX1_move 159 = .ok (.getfield 13, 3) := by decide +kernel
theorem dX1_move_162 : decode cX1_move 162 = .ok (.iload 6, 2) := by decide +kernel
theorem dX1_move_164 : decode cX1_move 164 = .ok (.aload_n 0, 1) := by decide +kernel
theorem dX1_move_165 : decode cX1_move 165 = .ok (.getfield 7, 3) := by decide +kernel
theorem dX1_move_168 : decode cX1_move 168 = .ok (.iload_n 3, 1) := by decide +kernel
theorem dX1_move_169 : decode cX1_move 169 = .ok (.iaload, 1) := by decide +kernel
theorem dX1_move_170 : decode cX1_move 170 = .ok (.iastore, 1) := by decide +kernel
theorem dX1_move_171 : decode cX1_move 171 = .ok (.return_, 1) := by decide +kernel
abbrev cX1_go : ByteArray := prog_3_method_14_code
def yX1_go : MethodName := ⟨RX1, "go", "(II)V"⟩
theorem dX1_go_0 : decode cX1_go 0 = .ok (.aload_n 0, 1) := by decide +kernel
theorem dX1_go_1 : decode cX1_go 1 = .ok (.getfield 7, 3) := by decide +kernel
theorem dX1_go_4 : decode cX1_go 4 = .ok (.iload_n 2, 1) := by decide +kernel
theorem dX1_go_5 : decode cX1_go 5 = .ok (.bipush 6, 2) := by decide +kernel
theorem dX1_go_7 : decode cX1_go 7 = .ok (.ishr, 1) := by decide +kernel
theorem dX1_go_8 : decode cX1_go 8 = .ok (.bipush 7, 2) := by decide +kernel
theorem dX1_go_10 : decode cX1_go 10 = .ok (.iand, 1) := by decide +kernel
theorem dX1_go_11 : decode cX1_go 11 = .ok (.iaload, 1) := by decide +kernel
theorem dX1_go_12 : decode cX1_go 12 = .ok (.istore_n 3, 1) := by decide +kernel
theorem dX1_go_13 : decode cX1_go 13 = .ok (.aload_n 0, 1) := by decide +kernel
theorem dX1_go_14 : decode cX1_go 14 = .ok (.getfield 16, 3) := by decide +kernel
theorem dX1_go_17 : decode cX1_go 17 = .ok (.istore 4, 2) := by decide +kernel
theorem dX1_go_19 : decode cX1_go 19 = .ok (.aload_n 0, 1) := by decide +kernel
theorem dX1_go_20 : decode cX1_go 20 = .ok (.iload_n 2, 1) := by decide +kernel
theorem dX1_go_21 : decode cX1_go 21 = .ok (.bipush 9, 2) := by decide +kernel
theorem dX1_go_23 : decode cX1_go 23 = .ok (.invokevirtual 38, 3) := by decide +kernel
theorem dX1_go_26 : decode cX1_go 26 = .ok (.istore 5, 2) := by decide +kernel
theorem dX1_go_28 : decode cX1_go 28 = .ok (.aload_n 0, 1) := by decide +kernel
theorem dX1_go_29 : decode cX1_go 29 = .ok (.iload_n 2, 1) := by decide +kernel
theorem dX1_go_30 : decode cX1_go 30 = .ok (.bipush 11, 2) := by decide +kernel
theorem dX1_go_32 : decode cX1_go 32 = .ok (.invokevirtual 38, 3) := by decide +kernel
theorem dX1_go_35 : decode cX1_go 35 = .ok (.istore 6, 2) := by decide +kernel
theorem dX1_go_37 : decode cX1_go 37 = .ok (.iload_n 1, 1) := by decide +kernel
theorem dX1_go_38 : decode cX1_go 38 = .ok (.ifCond .ne 26, 3) := by decide +kernel
theorem dX1_go_41 : decode cX1_go 41 = .ok (.aload_n 0, 1) := by decide +kernel
theorem dX1_go_42 : decode cX1_go 42 = .ok (.iload_n 2, 1) := by decide +kernel
theorem dX1_go_43 : decode cX1_go 43 = .ok (.invokevirtual 46, 3) := by decide +kernel
theorem dX1_go_46 : decode cX1_go 46 = .ok (.ifCond .eq 18, 3) := by decide +kernel
theorem dX1_go_49 : decode cX1_go 49 = .ok (.aload_n 0, 1) := by decide +kernel
theorem dX1_go_50 : decode cX1_go 50 = .ok (.aload_n 0, 1) := by decide +kernel
theorem dX1_go_51 : decode cX1_go 51 = .ok (.aload_n 0, 1) := by decide +kernel
theorem dX1_go_52 : decode cX1_go 52 = .ok (.getfield 16, 3) := by decide +kernel
theorem dX1_go_55 : decode cX1_go 55 = .ok (.iload 5, 2) := by decide +kernel
theorem dX1_go_57 : decode cX1_go 57 = .ok (.iadd, 1) := by decide +kernel
theorem dX1_go_58 : decode cX1_go 58 = .ok (.invokevirtual 34, 3) := by decide +kernel
theorem dX1_go_61 : decode cX1_go 61 = .ok (.putfield 16, 3) := by decide +kernel
theorem dX1_go_64 : decode cX1_go 64 = .ok (.iload_n 1, 1) := by decide +kernel
theorem dX1_go_65 : decode cX1_go 65 = .ok (.bipush 12, 2) := by decide +kernel
theorem dX1_go_67 : decode cX1_go 67 = .ok (.if_icmp .ne 8, 3) := by decide +kernel
theorem dX1_go_70 : decode cX1_go 70 = .ok (.aload_n 0, 1) := by decide +kernel
theorem dX1_go_71 : decode cX1_go 71 = .ok (.iload_n 3, 1) := by decide +kernel
theorem dX1_go_72 : decode cX1_go 72 = .ok (.putfield 16, 3) := by decide +kernel
theorem dX1_go_75 : decode cX1_go 75 = .ok (.iload_n 1, 1) := by decide +kernel
theorem dX1_go_76 : decode cX1_go 76 = .ok (.iconst 4, 1) := by decide +kernel
theorem dX1_go_77 : decode cX1_go 77 = .ok (.if_icmp .ne 39, 3) := by decide +kernel
theorem dX1_go_80 : decode cX1_go 80 = .ok (.aload_n 0, 1) := by decide +kernel
theorem dX1_go_81 : decode cX1_go 81 = .ok (.getfield 7, 3) := by decide +kernel
theorem dX1_go_84 : decode cX1_go 84 = .ok (.bipush 7, 2) := by decide +kernel
theorem dX1_go_86 : decode cX1_go 86 = .ok (.iload 4, 2) := by decide +kernel
theorem dX1_go_88 : decode cX1_go 88 = .ok (.iastore, 1) := by decide +kernel
theorem dX1_go_89 : decode cX1_go 89 = .ok (.aload_n 0, 1) := by decide +kernel
theorem dX1_go_90 : decode cX1_go 90 = .ok (.iload_n 2, 1) := by decide +kernel
theorem dX1_go_91 : decode cX1_go 91 = .ok (.bipush 11, 2) := by decide +kernel
theorem dX1_go_93 : decode cX1_go 93 = .ok (.ishr, 1) := by decide +kernel
theorem dX1_go_94 : decode cX1_go 94 = .ok (.iconst 1, 1) := by decide +kernel
theorem dX1_go_95 : decode cX1_go 95 = .ok (.iand, 1) := by decide +kernel
theorem dX1_go_96 : decode cX1_go 96 = .ok (.iconst 1, 1) := by decide +kernel
theorem dX1_go_97 : decode cX1_go 97 = .ok (.if_icmp .ne 15, 3) := by decide +kernel
theorem dX1_go_100 : decode cX1_go 100 = .ok (.aload_n 0, 1) := by decide +kernel
theorem dX1_go_101 : decode cX1_go 101 = .ok (.iload 4, 2) := by decide +kernel
theorem dX1_go_103 : decode cX1_go 103 = .ok (.iload 6, 2) := by decide +kernel
theorem dX1_go_105 : decode cX1_go 105 = .ok (.iadd, 1) := by decide +kernel
theorem dX1_go_106 : decode cX1_go 106 = .ok (.invokevirtual 34, 3) := by decide +kernel
theorem dX1_go_109 : decode cX1_go 109 = .ok (.goto 4, 3) := by decide +kernel
theorem dX1_go_112 : decode cX1_go 112 = .ok (.iload_n 3, 1) := by decide +kernel
theorem dX1_go_113 : decode cX1_go 113 = .ok (.putfield 16, 3) := by decide +kernel
theorem dX1_go_116 : decode cX1_go 116 = .ok (.iload_n 1, 1) := by decide +kernel
theorem dX1_go_117 : decode cX1_go 117 = .ok (.bipush 15, 2) := by decide +kernel
theorem dX1_go_119 : decode cX1_go 119 = .ok (.if_icmp .ne 8, 3) := by decide +kernel
theorem dX1_go_122 : decode cX1_go 122 = .ok (.aload_n 0, 1) := by decide +kernel
theorem dX1_go_123 : decode cX1_go 123 = .ok (.iconst 1, 1) := by decide +kernel
theorem dX1_go_124 : decode cX1_go 124 = .ok (.putfield 23, 3) := by decide +kernel
theorem dX1_go_127 : decode cX1_go 127 = .ok (.iload_n 1, 1) := by decide +kernel
theorem dX1_go_128 : decode cX1_go 128 = .ok (.bipush 8, 2) := by decide +kernel
theorem dX1_go_130 : decode cX1_go 130 = .ok (.if_icmp .eq 9, 3) := by decide +kernel
theorem dX1_go_133 : decode cX1_go 133 = .ok (.iload_n 1, 1) := by decide +kernel
theorem dX1_go_134 : decode cX1_go 134 = .ok (.bipush 13, 2) := by decide +kernel
theorem dX1_go_136 : decode cX1_go 136 = .ok (.if_icmp .ne 8, 3) := by decide +kernel
theorem dX1_go_139 : decode cX1_go 139 = .ok (.aload_n 0, 1) := by decide +kernel
theorem dX1_go_140 : decode cX1_go 140 = .ok (.iconst 2, 1) := by decide +kernel
theorem dX1_go_141 : decode cX1_go 141 = .ok (.putfield 23, 3) := by decide +kernel
theorem dX1_go_144 : decode cX1_go 144 = .ok (.return_, 1) := by decide +kernel
abbrev cX1_taken : ByteArray := prog_3_method_11_code
def yX1_taken : MethodName := ⟨RX1, "taken", "(I)Z"⟩
theorem dX1_taken_0 : decode cX1_taken 0 = .ok (.aload_n 0, 1) := by decide +kernel
theorem dX1_taken_1 : decode cX1_taken 1 = .ok (.getfield 20, 3) := by decide +kernel
theorem dX1_taken_4 : decode cX1_taken 4 = .ok (.ifCond .ge 19, 3) := by decide +kernel
theorem dX1_taken_7 : decode cX1_taken 7 = .ok (.iload_n 1, 1) := by decide +kernel
theorem dX1_taken_8 : decode cX1_taken 8 = .ok (.bipush 11, 2) := by decide +kernel
theorem dX1_taken_10 : decode cX1_taken 10 = .ok (.ishr, 1) := by decide +kernel
theorem dX1_taken_11 : decode cX1_taken 11 = .ok (.iconst 1, 1) := by decide +kernel
theorem dX1_taken_12 : decode cX1_taken 12 = .ok (.iand, 1) := by decide +kernel
theorem dX1_taken_13 : decode cX1_taken 13 = .ok (.iconst 1, 1) := by decide +kernel
theorem dX1_taken_14 : decode cX1_taken 14 = .ok (.if_icmp .ne 7, 3) := by decide +kernel
theorem dX1_taken_17 : decode cX1_taken 17 = .ok (.iconst 1, 1) := by decide +kernel
theorem dX1_taken_18 : decode cX1_taken 18 = .ok (.goto 4, 3) := by decide +kernel
theorem dX1_taken_21 : decode cX1_taken 21 = .ok (.iconst 0, 1) := by decide +kernel
theorem dX1_taken_22 : decode cX1_taken 22 = .ok (.ireturn, 1) := by decide +kernel
theorem dX1_taken_23 : decode cX1_taken 23 = .ok (.aload_n 0, 1) := by decide +kernel
theorem dX1_taken_24 : decode cX1_taken 24 = .ok (.getfield 20, 3) := by decide +kernel
theorem dX1_taken_27 : decode cX1_taken 27 = .ok (.ifCond .ne 21, 3) := by decide +kernel
theorem dX1_taken_30 : decode cX1_taken 30 = .ok (.iload_n 1, 1) := by decide +kernel
theorem dX1_taken_31 : decode cX1_taken 31 = .ok (.bipush 10, 2) := by decide +kernel
theorem dX1_taken_33 : decode cX1_taken 33 = .ok (.ishr, 1) := by decide +kernel
theorem dX1_taken_34 : decode cX1_taken 34 = .ok (.iconst 1, 1) := by decide +kernel
theorem dX1_taken_35 : decode cX1_taken 35 = .ok (.iand, 1) := by decide +kernel
theorem dX1_taken_36 : decode cX1_taken 36 = .ok (.iconst 1, 1) := by decide +kernel
theorem dX1_taken_37 : decode cX1_taken 37 = .ok (.if_icmp .ne 7, 3) := by decide +kernel
theorem dX1_taken_40 : decode cX1_taken 40 = .ok (.iconst 1, 1) := by decide +kernel
theorem dX1_taken_41 : decode cX1_taken 41 = .ok (.goto 22, 3) := by decide +kernel
theorem dX1_taken_44 : decode cX1_taken 44 = .ok (.iconst 0, 1) := by decide +kernel
theorem dX1_taken_45 : decode cX1_taken 45 = .ok (.goto 18, 3) := by decide +kernel
theorem dX1_taken_48 : decode cX1_taken 48 = .ok (.iload_n 1, 1) := by decide +kernel
theorem dX1_taken_49 : decode cX1_taken 49 = .ok (.bipush 9, 2) := by decide +kernel
theorem dX1_taken_51 : decode cX1_taken 51 = .ok (.ishr, 1) := by decide +kernel
theorem dX1_taken_52 : decode cX1_taken 52 = .ok (.iconst 1, 1) := by decide +kernel
theorem dX1_taken_53 : decode cX1_taken 53 = .ok (.iand, 1) := by decide +kernel
theorem dX1_taken_54 : decode cX1_taken 54 = .ok (.iconst 1, 1) := by decide +kernel
theorem dX1_taken_55 : decode cX1_taken 55 = .ok (.if_icmp .ne 7, 3) := by decide +kernel
theorem dX1_taken_58 : decode cX1_taken 58 = .ok (.iconst 1, 1) := by decide +kernel
theorem dX1_taken_59 : decode cX1_taken 59 = .ok (.goto 4, 3) := by decide +kernel
theorem dX1_taken_62 : decode cX1_taken 62 = .ok (.iconst 0, 1) := by decide +kernel
theorem dX1_taken_63 : decode cX1_taken 63 = .ok (.ireturn, 1) := by decide +kernel
abbrev cX1_place : ByteArray := prog_3_method_17_code
def yX1_place : MethodName := ⟨RX1, "place", "()I"⟩
theorem dX1_place_0 : decode cX1_place 0 = .ok (.aload_n 0, 1) := by decide +kernel
theorem dX1_place_1 : decode cX1_place 1 = .ok (.getfield 16, 3) := by decide +kernel
theorem dX1_place_4 : decode cX1_place 4 = .ok (.ireturn, 1) := by decide +kernel
abbrev cX1_sign : ByteArray := prog_3_method_18_code
def yX1_sign : MethodName := ⟨RX1, "sign", "()I"⟩
theorem dX1_sign_0 : decode cX1_sign 0 = .ok (.aload_n 0, 1) := by decide +kernel
theorem dX1_sign_1 : decode cX1_sign 1 = .ok (.getfield 20, 3) := by decide +kernel
theorem dX1_sign_4 : decode cX1_sign 4 = .ok (.ireturn, 1) := by decide +kernel
abbrev cX1_status : ByteArray := prog_3_method_19_code
def yX1_status : MethodName := ⟨RX1, "status", "()I"⟩
theorem dX1_status_0 : decode cX1_status 0 = .ok (.aload_n 0, 1) := by decide +kernel
theorem dX1_status_1 : decode cX1_status 1 = .ok (.getfield 23, 3) := by decide +kernel
theorem dX1_status_4 : decode cX1_status 4 = .ok (.ireturn, 1) := by decide +kernel
abbrev cX1_count : ByteArray := prog_3_method_20_code
def yX1_count : MethodName := ⟨RX1, "count", "()I"⟩
theorem dX1_count_0 : decode cX1_count 0 = .ok (.aload_n 0, 1) := by decide +kernel
theorem dX1_count_1 : decode cX1_count 1 = .ok (.getfield 26, 3) := by decide +kernel
theorem dX1_count_4 : decode cX1_count 4 = .ok (.ireturn, 1) := by decide +kernel
theorem q24 : (Jvm.Cond.initialized "MicroLc3Model") ∈ lw_all := lw_g (lw_at lw_m1 2 rfl) rfl
theorem q208 : (Jvm.Cond.instantiable "MicroLc3Model" (6 : Nat)) ∈ lw_all := lw_g (lw_at lw_m1 186 rfl) rfl
theorem q210 : (Jvm.Cond.instanceMethod ({ cls := "MicroLc3Model", name := "<init>", desc := "()V" } : Jvm.MethodName)) ∈ lw_all := lw_g (lw_at lw_m1 188 rfl) rfl
theorem q211 : (Jvm.Cond.code ({ cls := "MicroLc3Model", name := "<init>", desc := "()V" } : Jvm.MethodName) prog_3_method_1_code (1 : Nat) (Option.none : Option Jvm.ClassFile.FieldType)) ∈ lw_all := lw_g (lw_at lw_m1 189 rfl) rfl
theorem q212 : (Jvm.Cond.methodLink "MicroLc3Model" (1 : Nat) ({ cls := "java/lang/Object", name := "<init>", desc := "()V" } : Jvm.MethodName)) ∈ lw_all := lw_g (lw_at lw_m1 190 rfl) rfl
theorem q213 : (Jvm.Cond.fieldLink "MicroLc3Model" (7 : Nat) "MicroLc3Model" "regs" "[I") ∈ lw_all := lw_g (lw_at lw_m1 191 rfl) rfl
theorem q214 : (Jvm.Cond.fieldLink "MicroLc3Model" (13 : Nat) "MicroLc3Model" "cells" "[I") ∈ lw_all := lw_g (lw_at lw_m1 192 rfl) rfl
theorem q215 : (Jvm.Cond.fieldLink "MicroLc3Model" (16 : Nat) "MicroLc3Model" "pc" "I") ∈ lw_all := lw_g (lw_at lw_m1 193 rfl) rfl
theorem q216 : (Jvm.Cond.fieldLink "MicroLc3Model" (20 : Nat) "MicroLc3Model" "sign" "I") ∈ lw_all := lw_g (lw_at lw_m1 194 rfl) rfl
theorem q217 : (Jvm.Cond.fieldLink "MicroLc3Model" (23 : Nat) "MicroLc3Model" "status" "I") ∈ lw_all := lw_g (lw_at lw_m1 195 rfl) rfl
theorem q218 : (Jvm.Cond.fieldLink "MicroLc3Model" (26 : Nat) "MicroLc3Model" "count" "I") ∈ lw_all := lw_g (lw_at lw_m1 196 rfl) rfl
theorem q219 : (Jvm.Cond.lays "MicroLc3Model" "MicroLc3Model" "regs" "[I") ∈ lw_all := lw_g (lw_at lw_m1 197 rfl) rfl
theorem q220 : (Jvm.Cond.soleField "MicroLc3Model" "regs") ∈ lw_all := lw_g (lw_at lw_m1 198 rfl) rfl
theorem q221 : (Jvm.Cond.lays "MicroLc3Model" "MicroLc3Model" "cells" "[I") ∈ lw_all := lw_g (lw_at lw_m1 199 rfl) rfl
theorem q222 : (Jvm.Cond.soleField "MicroLc3Model" "cells") ∈ lw_all := lw_g (lw_at lw_m1 200 rfl) rfl
theorem q223 : (Jvm.Cond.lays "MicroLc3Model" "MicroLc3Model" "pc" "I") ∈ lw_all := lw_g (lw_at lw_m1 201 rfl) rfl
theorem q224 : (Jvm.Cond.soleField "MicroLc3Model" "pc") ∈ lw_all := lw_g (lw_at lw_m1 202 rfl) rfl
theorem q225 : (Jvm.Cond.lays "MicroLc3Model" "MicroLc3Model" "sign" "I") ∈ lw_all := lw_g (lw_at lw_m1 203 rfl) rfl
theorem q226 : (Jvm.Cond.soleField "MicroLc3Model" "sign") ∈ lw_all := lw_g (lw_at lw_m1 204 rfl) rfl
theorem q227 : (Jvm.Cond.lays "MicroLc3Model" "MicroLc3Model" "status" "I") ∈ lw_all := lw_g (lw_at lw_m1 205 rfl) rfl
theorem q228 : (Jvm.Cond.soleField "MicroLc3Model" "status") ∈ lw_all := lw_g (lw_at lw_m1 206 rfl) rfl
theorem q229 : (Jvm.Cond.lays "MicroLc3Model" "MicroLc3Model" "count" "I") ∈ lw_all := lw_g (lw_at lw_m1 207 rfl) rfl
theorem q230 : (Jvm.Cond.soleField "MicroLc3Model" "count") ∈ lw_all := lw_g (lw_at lw_m1 208 rfl) rfl
theorem q231 : (Jvm.Cond.superclass "MicroLc3Model" "java/lang/Object") ∈ lw_all := lw_g (lw_at lw_m1 209 rfl) rfl
theorem q233 : (Jvm.Cond.instanceMethod ({ cls := "MicroLc3Model", name := "poke", desc := "(II)Z" } : Jvm.MethodName)) ∈ lw_all := lw_g (lw_at lw_m1 211 rfl) rfl
theorem q234 : (Jvm.Cond.selects "MicroLc3Model" ({ cls := "MicroLc3Model", name := "poke", desc := "(II)Z" } : Jvm.MethodName) ({ cls := "MicroLc3Model", name := "poke", desc := "(II)Z" } : Jvm.MethodName)) ∈ lw_all := lw_g (lw_at lw_m1 212 rfl) rfl
theorem q235 : (Jvm.Cond.code ({ cls := "MicroLc3Model", name := "poke", desc := "(II)Z" } : Jvm.MethodName) prog_3_method_3_code (3 : Nat) (Option.some Jvm.ClassFile.FieldType.boolean)) ∈ lw_all := lw_g (lw_at lw_m1 213 rfl) rfl
theorem q236 : (Jvm.Cond.methodLink "MicroLc3Model" (30 : Nat) ({ cls := "MicroLc3Model", name := "isWord", desc := "(I)Z" } : Jvm.MethodName)) ∈ lw_all := lw_g (lw_at lw_m1 214 rfl) rfl
theorem q237 : (Jvm.Cond.privateMethod ({ cls := "MicroLc3Model", name := "isWord", desc := "(I)Z" } : Jvm.MethodName)) ∈ lw_tbl := lw_at lw_m1 215 rfl
theorem q238 : (Jvm.Cond.instanceMethod ({ cls := "MicroLc3Model", name := "isWord", desc := "(I)Z" } : Jvm.MethodName)) ∈ lw_all := lw_g (lw_at lw_m1 216 rfl) rfl
theorem q239 : (Jvm.Cond.code ({ cls := "MicroLc3Model", name := "isWord", desc := "(I)Z" } : Jvm.MethodName) prog_3_method_2_code (2 : Nat) (Option.some Jvm.ClassFile.FieldType.boolean)) ∈ lw_all := lw_g (lw_at lw_m1 217 rfl) rfl
theorem q240 : (Jvm.Cond.constant "MicroLc3Model" (29 : Nat) (65535 : Int32)) ∈ lw_all := lw_g (lw_at lw_m1 218 rfl) rfl
theorem q242 : (Jvm.Cond.instanceMethod ({ cls := "MicroLc3Model", name := "peek", desc := "(I)I" } : Jvm.MethodName)) ∈ lw_all := lw_g (lw_at lw_m1 220 rfl) rfl
theorem q243 : (Jvm.Cond.selects "MicroLc3Model" ({ cls := "MicroLc3Model", name := "peek", desc := "(I)I" } : Jvm.MethodName) ({ cls := "MicroLc3Model", name := "peek", desc := "(I)I" } : Jvm.MethodName)) ∈ lw_all := lw_g (lw_at lw_m1 221 rfl) rfl
theorem q244 : (Jvm.Cond.code ({ cls := "MicroLc3Model", name := "peek", desc := "(I)I" } : Jvm.MethodName) prog_3_method_4_code (2 : Nat) (Option.some Jvm.ClassFile.FieldType.int)) ∈ lw_all := lw_g (lw_at lw_m1 222 rfl) rfl
theorem q246 : (Jvm.Cond.instanceMethod ({ cls := "MicroLc3Model", name := "setRegister", desc := "(II)Z" } : Jvm.MethodName)) ∈ lw_all := lw_g (lw_at lw_m1 224 rfl) rfl
theorem q247 : (Jvm.Cond.selects "MicroLc3Model" ({ cls := "MicroLc3Model", name := "setRegister", desc := "(II)Z" } : Jvm.MethodName) ({ cls := "MicroLc3Model", name := "setRegister", desc := "(II)Z" } : Jvm.MethodName)) ∈ lw_all := lw_g (lw_at lw_m1 225 rfl) rfl
theorem q248 : (Jvm.Cond.code ({ cls := "MicroLc3Model", name := "setRegister", desc := "(II)Z" } : Jvm.MethodName) prog_3_method_5_code (3 : Nat) (Option.some Jvm.ClassFile.FieldType.boolean)) ∈ lw_all := lw_g (lw_at lw_m1 226 rfl) rfl
theorem q250 : (Jvm.Cond.instanceMethod ({ cls := "MicroLc3Model", name := "register", desc := "(I)I" } : Jvm.MethodName)) ∈ lw_all := lw_g (lw_at lw_m1 228 rfl) rfl
theorem q251 : (Jvm.Cond.selects "MicroLc3Model" ({ cls := "MicroLc3Model", name := "register", desc := "(I)I" } : Jvm.MethodName) ({ cls := "MicroLc3Model", name := "register", desc := "(I)I" } : Jvm.MethodName)) ∈ lw_all := lw_g (lw_at lw_m1 229 rfl) rfl
theorem q252 : (Jvm.Cond.code ({ cls := "MicroLc3Model", name := "register", desc := "(I)I" } : Jvm.MethodName) prog_3_method_6_code (2 : Nat) (Option.some Jvm.ClassFile.FieldType.int)) ∈ lw_all := lw_g (lw_at lw_m1 230 rfl) rfl
theorem q254 : (Jvm.Cond.instanceMethod ({ cls := "MicroLc3Model", name := "start", desc := "(I)Z" } : Jvm.MethodName)) ∈ lw_all := lw_g (lw_at lw_m1 232 rfl) rfl
theorem q255 : (Jvm.Cond.selects "MicroLc3Model" ({ cls := "MicroLc3Model", name := "start", desc := "(I)Z" } : Jvm.MethodName) ({ cls := "MicroLc3Model", name := "start", desc := "(I)Z" } : Jvm.MethodName)) ∈ lw_all := lw_g (lw_at lw_m1 233 rfl) rfl
theorem q256 : (Jvm.Cond.code ({ cls := "MicroLc3Model", name := "start", desc := "(I)Z" } : Jvm.MethodName) prog_3_method_7_code (2 : Nat) (Option.some Jvm.ClassFile.FieldType.boolean)) ∈ lw_all := lw_g (lw_at lw_m1 234 rfl) rfl
theorem q258 : (Jvm.Cond.instanceMethod ({ cls := "MicroLc3Model", name := "step", desc := "(I)I" } : Jvm.MethodName)) ∈ lw_all := lw_g (lw_at lw_m1 236 rfl) rfl
theorem q259 : (Jvm.Cond.selects "MicroLc3Model" ({ cls := "MicroLc3Model", name := "step", desc := "(I)I" } : Jvm.MethodName) ({ cls := "MicroLc3Model", name := "step", desc := "(I)I" } : Jvm.MethodName)) ∈ lw_all := lw_g (lw_at lw_m1 237 rfl) rfl
theorem q260 : (Jvm.Cond.code ({ cls := "MicroLc3Model", name := "step", desc := "(I)I" } : Jvm.MethodName) prog_3_method_16_code (5 : Nat) (Option.some Jvm.ClassFile.FieldType.int)) ∈ lw_all := lw_g (lw_at lw_m1 238 rfl) rfl
theorem q261 : (Jvm.Cond.methodLink "MicroLc3Model" (58 : Nat) ({ cls := "MicroLc3Model", name := "execute", desc := "()V" } : Jvm.MethodName)) ∈ lw_all := lw_g (lw_at lw_m1 239 rfl) rfl
theorem q262 : (Jvm.Cond.privateMethod ({ cls := "MicroLc3Model", name := "execute", desc := "()V" } : Jvm.MethodName)) ∈ lw_tbl := lw_at lw_m2 0 rfl
theorem q263 : (Jvm.Cond.instanceMethod ({ cls := "MicroLc3Model", name := "execute", desc := "()V" } : Jvm.MethodName)) ∈ lw_all := lw_g (lw_at lw_m2 1 rfl) rfl
theorem q264 : (Jvm.Cond.code ({ cls := "MicroLc3Model", name := "execute", desc := "()V" } : Jvm.MethodName) prog_3_method_15_code (3 : Nat) (Option.none : Option Jvm.ClassFile.FieldType)) ∈ lw_all := lw_g (lw_at lw_m2 2 rfl) rfl
theorem q265 : (Jvm.Cond.methodLink "MicroLc3Model" (34 : Nat) ({ cls := "MicroLc3Model", name := "word", desc := "(I)I" } : Jvm.MethodName)) ∈ lw_all := lw_g (lw_at lw_m2 3 rfl) rfl
theorem q266 : (Jvm.Cond.privateMethod ({ cls := "MicroLc3Model", name := "word", desc := "(I)I" } : Jvm.MethodName)) ∈ lw_tbl := lw_at lw_m2 4 rfl
theorem q267 : (Jvm.Cond.instanceMethod ({ cls := "MicroLc3Model", name := "word", desc := "(I)I" } : Jvm.MethodName)) ∈ lw_all := lw_g (lw_at lw_m2 5 rfl) rfl
theorem q268 : (Jvm.Cond.code ({ cls := "MicroLc3Model", name := "word", desc := "(I)I" } : Jvm.MethodName) prog_3_method_9_code (2 : Nat) (Option.some Jvm.ClassFile.FieldType.int)) ∈ lw_all := lw_g (lw_at lw_m2 6 rfl) rfl
theorem q269 : (Jvm.Cond.methodLink "MicroLc3Model" (49 : Nat) ({ cls := "MicroLc3Model", name := "calculate", desc := "(II)V" } : Jvm.MethodName)) ∈ lw_all := lw_g (lw_at lw_m2 7 rfl) rfl
theorem q270 : (Jvm.Cond.privateMethod ({ cls := "MicroLc3Model", name := "calculate", desc := "(II)V" } : Jvm.MethodName)) ∈ lw_tbl := lw_at lw_m2 8 rfl
theorem q271 : (Jvm.Cond.instanceMethod ({ cls := "MicroLc3Model", name := "calculate", desc := "(II)V" } : Jvm.MethodName)) ∈ lw_all := lw_g (lw_at lw_m2 9 rfl) rfl
theorem q272 : (Jvm.Cond.code ({ cls := "MicroLc3Model", name := "calculate", desc := "(II)V" } : Jvm.MethodName) prog_3_method_12_code (7 : Nat) (Option.none : Option Jvm.ClassFile.FieldType)) ∈ lw_all := lw_g (lw_at lw_m2 10 rfl) rfl
theorem q273 : (Jvm.Cond.methodLink "MicroLc3Model" (38 : Nat) ({ cls := "MicroLc3Model", name := "signed", desc := "(II)I" } : Jvm.MethodName)) ∈ lw_all := lw_g (lw_at lw_m2 11 rfl) rfl
theorem q274 : (Jvm.Cond.privateMethod ({ cls := "MicroLc3Model", name := "signed", desc := "(II)I" } : Jvm.MethodName)) ∈ lw_tbl := lw_at lw_m2 12 rfl
theorem q275 : (Jvm.Cond.instanceMethod ({ cls := "MicroLc3Model", name := "signed", desc := "(II)I" } : Jvm.MethodName)) ∈ lw_all := lw_g (lw_at lw_m2 13 rfl) rfl
theorem q276 : (Jvm.Cond.code ({ cls := "MicroLc3Model", name := "signed", desc := "(II)I" } : Jvm.MethodName) prog_3_method_8_code (4 : Nat) (Option.some Jvm.ClassFile.FieldType.int)) ∈ lw_all := lw_g (lw_at lw_m2 14 rfl) rfl
theorem q277 : (Jvm.Cond.methodLink "MicroLc3Model" (42 : Nat) ({ cls := "MicroLc3Model", name := "give", desc := "(II)V" } : Jvm.MethodName)) ∈ lw_all := lw_g (lw_at lw_m2 15 rfl) rfl
theorem q278 : (Jvm.Cond.privateMethod ({ cls := "MicroLc3Model", name := "give", desc := "(II)V" } : Jvm.MethodName)) ∈ lw_tbl := lw_at lw_m2 16 rfl
theorem q279 : (Jvm.Cond.instanceMethod ({ cls := "MicroLc3Model", name := "give", desc := "(II)V" } : Jvm.MethodName)) ∈ lw_all := lw_g (lw_at lw_m2 17 rfl) rfl
theorem q280 : (Jvm.Cond.code ({ cls := "MicroLc3Model", name := "give", desc := "(II)V" } : Jvm.MethodName) prog_3_method_10_code (4 : Nat) (Option.none : Option Jvm.ClassFile.FieldType)) ∈ lw_all := lw_g (lw_at lw_m2 18 rfl) rfl
theorem q281 : (Jvm.Cond.methodLink "MicroLc3Model" (52 : Nat) ({ cls := "MicroLc3Model", name := "move", desc := "(II)V" } : Jvm.MethodName)) ∈ lw_all := lw_g (lw_at lw_m2 19 rfl) rfl
theorem q282 : (Jvm.Cond.privateMethod ({ cls := "MicroLc3Model", name := "move", desc := "(II)V" } : Jvm.MethodName)) ∈ lw_tbl := lw_at lw_m2 20 rfl
theorem q283 : (Jvm.Cond.instanceMethod ({ cls := "MicroLc3Model", name := "move", desc := "(II)V" } : Jvm.MethodName)) ∈ lw_all := lw_g (lw_at lw_m2 21 rfl) rfl
theorem q284 : (Jvm.Cond.code ({ cls := "MicroLc3Model", name := "move", desc := "(II)V" } : Jvm.MethodName) prog_3_method_13_code (7 : Nat) (Option.none : Option Jvm.ClassFile.FieldType)) ∈ lw_all := lw_g (lw_at lw_m2 22 rfl) rfl
theorem q285 : (Jvm.Cond.methodLink "MicroLc3Model" (55 : Nat) ({ cls := "MicroLc3Model", name := "go", desc := "(II)V" } : Jvm.MethodName)) ∈ lw_all := lw_g (lw_at lw_m2 23 rfl) rfl
theorem q286 : (Jvm.Cond.privateMethod ({ cls := "MicroLc3Model", name := "go", desc := "(II)V" } : Jvm.MethodName)) ∈ lw_tbl := lw_at lw_m2 24 rfl
theorem q287 : (Jvm.Cond.instanceMethod ({ cls := "MicroLc3Model", name := "go", desc := "(II)V" } : Jvm.MethodName)) ∈ lw_all := lw_g (lw_at lw_m2 25 rfl) rfl
theorem q288 : (Jvm.Cond.code ({ cls := "MicroLc3Model", name := "go", desc := "(II)V" } : Jvm.MethodName) prog_3_method_14_code (7 : Nat) (Option.none : Option Jvm.ClassFile.FieldType)) ∈ lw_all := lw_g (lw_at lw_m2 26 rfl) rfl
theorem q289 : (Jvm.Cond.methodLink "MicroLc3Model" (46 : Nat) ({ cls := "MicroLc3Model", name := "taken", desc := "(I)Z" } : Jvm.MethodName)) ∈ lw_all := lw_g (lw_at lw_m2 27 rfl) rfl
theorem q290 : (Jvm.Cond.privateMethod ({ cls := "MicroLc3Model", name := "taken", desc := "(I)Z" } : Jvm.MethodName)) ∈ lw_tbl := lw_at lw_m2 28 rfl
theorem q291 : (Jvm.Cond.instanceMethod ({ cls := "MicroLc3Model", name := "taken", desc := "(I)Z" } : Jvm.MethodName)) ∈ lw_all := lw_g (lw_at lw_m2 29 rfl) rfl
theorem q292 : (Jvm.Cond.code ({ cls := "MicroLc3Model", name := "taken", desc := "(I)Z" } : Jvm.MethodName) prog_3_method_11_code (2 : Nat) (Option.some Jvm.ClassFile.FieldType.boolean)) ∈ lw_all := lw_g (lw_at lw_m2 30 rfl) rfl
theorem q294 : (Jvm.Cond.instanceMethod ({ cls := "MicroLc3Model", name := "place", desc := "()I" } : Jvm.MethodName)) ∈ lw_all := lw_g (lw_at lw_m2 32 rfl) rfl
theorem q295 : (Jvm.Cond.selects "MicroLc3Model" ({ cls := "MicroLc3Model", name := "place", desc := "()I" } : Jvm.MethodName) ({ cls := "MicroLc3Model", name := "place", desc := "()I" } : Jvm.MethodName)) ∈ lw_all := lw_g (lw_at lw_m2 33 rfl) rfl
theorem q296 : (Jvm.Cond.code ({ cls := "MicroLc3Model", name := "place", desc := "()I" } : Jvm.MethodName) prog_3_method_17_code (1 : Nat) (Option.some Jvm.ClassFile.FieldType.int)) ∈ lw_all := lw_g (lw_at lw_m2 34 rfl) rfl
theorem q298 : (Jvm.Cond.instanceMethod ({ cls := "MicroLc3Model", name := "sign", desc := "()I" } : Jvm.MethodName)) ∈ lw_all := lw_g (lw_at lw_m2 36 rfl) rfl
theorem q299 : (Jvm.Cond.selects "MicroLc3Model" ({ cls := "MicroLc3Model", name := "sign", desc := "()I" } : Jvm.MethodName) ({ cls := "MicroLc3Model", name := "sign", desc := "()I" } : Jvm.MethodName)) ∈ lw_all := lw_g (lw_at lw_m2 37 rfl) rfl
theorem q300 : (Jvm.Cond.code ({ cls := "MicroLc3Model", name := "sign", desc := "()I" } : Jvm.MethodName) prog_3_method_18_code (1 : Nat) (Option.some Jvm.ClassFile.FieldType.int)) ∈ lw_all := lw_g (lw_at lw_m2 38 rfl) rfl
theorem q302 : (Jvm.Cond.instanceMethod ({ cls := "MicroLc3Model", name := "status", desc := "()I" } : Jvm.MethodName)) ∈ lw_all := lw_g (lw_at lw_m2 40 rfl) rfl
theorem q303 : (Jvm.Cond.selects "MicroLc3Model" ({ cls := "MicroLc3Model", name := "status", desc := "()I" } : Jvm.MethodName) ({ cls := "MicroLc3Model", name := "status", desc := "()I" } : Jvm.MethodName)) ∈ lw_all := lw_g (lw_at lw_m2 41 rfl) rfl
theorem q304 : (Jvm.Cond.code ({ cls := "MicroLc3Model", name := "status", desc := "()I" } : Jvm.MethodName) prog_3_method_19_code (1 : Nat) (Option.some Jvm.ClassFile.FieldType.int)) ∈ lw_all := lw_g (lw_at lw_m2 42 rfl) rfl
theorem q306 : (Jvm.Cond.instanceMethod ({ cls := "MicroLc3Model", name := "count", desc := "()I" } : Jvm.MethodName)) ∈ lw_all := lw_g (lw_at lw_m2 44 rfl) rfl
theorem q307 : (Jvm.Cond.selects "MicroLc3Model" ({ cls := "MicroLc3Model", name := "count", desc := "()I" } : Jvm.MethodName) ({ cls := "MicroLc3Model", name := "count", desc := "()I" } : Jvm.MethodName)) ∈ lw_all := lw_g (lw_at lw_m2 45 rfl) rfl
theorem q308 : (Jvm.Cond.code ({ cls := "MicroLc3Model", name := "count", desc := "()I" } : Jvm.MethodName) prog_3_method_20_code (1 : Nat) (Option.some Jvm.ClassFile.FieldType.int)) ∈ lw_all := lw_g (lw_at lw_m2 46 rfl) rfl
theorem in_X1 : ∀ w ∈ wsX10, w ∈ lw_all := lw_in wsX10 [219, 221, 223, 225, 227, 229] (by decide +kernel) (by decide +kernel)
end
section
/-! java/lang/Object -/
set_option maxRecDepth 100000
def RJ0 : String := "java/lang/Object"
abbrev cJ0_init : ByteArray := object_method_1_code
def yJ0_init : MethodName := ⟨RJ0, "<init>", "()V"⟩
theorem dJ0_init_0 : decode cJ0_init 0 = .ok (.return_, 1) := by decide +kernel
theorem q31 : (Jvm.Cond.instanceMethod ({ cls := "java/lang/Object", name := "<init>", desc := "()V" } : Jvm.MethodName)) ∈ lw_all := lw_g (lw_at lw_m1 9 rfl) rfl
theorem q32 : (Jvm.Cond.code ({ cls := "java/lang/Object", name := "<init>", desc := "()V" } : Jvm.MethodName) object_method_1_code (1 : Nat) (Option.none : Option Jvm.ClassFile.FieldType)) ∈ lw_all := lw_g (lw_at lw_m1 10 rfl) rfl

theorem q109 : (Jvm.Cond.arrayClass Jvm.ClassFile.FieldType.int) ∈ lw_all := lw_g (lw_at lw_m1 87 rfl) rfl
set_option maxRecDepth 100000

theorem q22 : (Jvm.Cond.initialized "MicroLc3Law") ∈ lw_all := lw_g (lw_at lw_m1 0 rfl) rfl
set_option maxRecDepth 100000
theorem q25 : (Jvm.Cond.classLink "MicroLc3Law" (7 : Nat) "MicroLc3") ∈ lw_all := lw_g (lw_at lw_m1 3 rfl) rfl
theorem q27 : (Jvm.Cond.methodLink "MicroLc3Law" (9 : Nat) ({ cls := "MicroLc3", name := "<init>", desc := "()V" } : Jvm.MethodName)) ∈ lw_all := lw_g (lw_at lw_m1 5 rfl) rfl
theorem q110 : (Jvm.Cond.methodLink "MicroLc3Law" (13 : Nat) ({ cls := "MicroLc3", name := "poke", desc := "(II)Z" } : Jvm.MethodName)) ∈ lw_all := lw_g (lw_at lw_m1 88 rfl) rfl
theorem q115 : (Jvm.Cond.methodLink "MicroLc3Law" (18 : Nat) ({ cls := "MicroLc3", name := "peek", desc := "(I)I" } : Jvm.MethodName)) ∈ lw_all := lw_g (lw_at lw_m1 93 rfl) rfl
theorem q119 : (Jvm.Cond.methodLink "MicroLc3Law" (23 : Nat) ({ cls := "MicroLc3", name := "setRegister", desc := "(II)Z" } : Jvm.MethodName)) ∈ lw_all := lw_g (lw_at lw_m1 97 rfl) rfl
theorem q123 : (Jvm.Cond.methodLink "MicroLc3Law" (27 : Nat) ({ cls := "MicroLc3", name := "register", desc := "(I)I" } : Jvm.MethodName)) ∈ lw_all := lw_g (lw_at lw_m1 101 rfl) rfl
theorem q127 : (Jvm.Cond.methodLink "MicroLc3Law" (31 : Nat) ({ cls := "MicroLc3", name := "start", desc := "(I)Z" } : Jvm.MethodName)) ∈ lw_all := lw_g (lw_at lw_m1 105 rfl) rfl
theorem q131 : (Jvm.Cond.methodLink "MicroLc3Law" (36 : Nat) ({ cls := "MicroLc3", name := "step", desc := "(I)I" } : Jvm.MethodName)) ∈ lw_all := lw_g (lw_at lw_m1 109 rfl) rfl
theorem q191 : (Jvm.Cond.methodLink "MicroLc3Law" (40 : Nat) ({ cls := "MicroLc3", name := "place", desc := "()I" } : Jvm.MethodName)) ∈ lw_all := lw_g (lw_at lw_m1 169 rfl) rfl
theorem q195 : (Jvm.Cond.methodLink "MicroLc3Law" (45 : Nat) ({ cls := "MicroLc3", name := "sign", desc := "()I" } : Jvm.MethodName)) ∈ lw_all := lw_g (lw_at lw_m1 173 rfl) rfl
theorem q199 : (Jvm.Cond.methodLink "MicroLc3Law" (49 : Nat) ({ cls := "MicroLc3", name := "status", desc := "()I" } : Jvm.MethodName)) ∈ lw_all := lw_g (lw_at lw_m1 177 rfl) rfl
theorem q203 : (Jvm.Cond.methodLink "MicroLc3Law" (53 : Nat) ({ cls := "MicroLc3", name := "count", desc := "()I" } : Jvm.MethodName)) ∈ lw_all := lw_g (lw_at lw_m1 181 rfl) rfl
theorem q207 : (Jvm.Cond.classLink "MicroLc3Law" (10 : Nat) "MicroLc3Model") ∈ lw_all := lw_g (lw_at lw_m1 185 rfl) rfl
theorem q209 : (Jvm.Cond.methodLink "MicroLc3Law" (12 : Nat) ({ cls := "MicroLc3Model", name := "<init>", desc := "()V" } : Jvm.MethodName)) ∈ lw_all := lw_g (lw_at lw_m1 187 rfl) rfl
theorem q232 : (Jvm.Cond.methodLink "MicroLc3Law" (17 : Nat) ({ cls := "MicroLc3Model", name := "poke", desc := "(II)Z" } : Jvm.MethodName)) ∈ lw_all := lw_g (lw_at lw_m1 210 rfl) rfl
theorem q241 : (Jvm.Cond.methodLink "MicroLc3Law" (22 : Nat) ({ cls := "MicroLc3Model", name := "peek", desc := "(I)I" } : Jvm.MethodName)) ∈ lw_all := lw_g (lw_at lw_m1 219 rfl) rfl
theorem q245 : (Jvm.Cond.methodLink "MicroLc3Law" (26 : Nat) ({ cls := "MicroLc3Model", name := "setRegister", desc := "(II)Z" } : Jvm.MethodName)) ∈ lw_all := lw_g (lw_at lw_m1 223 rfl) rfl
theorem q249 : (Jvm.Cond.methodLink "MicroLc3Law" (30 : Nat) ({ cls := "MicroLc3Model", name := "register", desc := "(I)I" } : Jvm.MethodName)) ∈ lw_all := lw_g (lw_at lw_m1 227 rfl) rfl
theorem q253 : (Jvm.Cond.methodLink "MicroLc3Law" (35 : Nat) ({ cls := "MicroLc3Model", name := "start", desc := "(I)Z" } : Jvm.MethodName)) ∈ lw_all := lw_g (lw_at lw_m1 231 rfl) rfl
theorem q257 : (Jvm.Cond.methodLink "MicroLc3Law" (39 : Nat) ({ cls := "MicroLc3Model", name := "step", desc := "(I)I" } : Jvm.MethodName)) ∈ lw_all := lw_g (lw_at lw_m1 235 rfl) rfl
theorem q293 : (Jvm.Cond.methodLink "MicroLc3Law" (44 : Nat) ({ cls := "MicroLc3Model", name := "place", desc := "()I" } : Jvm.MethodName)) ∈ lw_all := lw_g (lw_at lw_m2 31 rfl) rfl
theorem q297 : (Jvm.Cond.methodLink "MicroLc3Law" (48 : Nat) ({ cls := "MicroLc3Model", name := "sign", desc := "()I" } : Jvm.MethodName)) ∈ lw_all := lw_g (lw_at lw_m2 35 rfl) rfl
theorem q301 : (Jvm.Cond.methodLink "MicroLc3Law" (52 : Nat) ({ cls := "MicroLc3Model", name := "status", desc := "()I" } : Jvm.MethodName)) ∈ lw_all := lw_g (lw_at lw_m2 39 rfl) rfl
theorem q305 : (Jvm.Cond.methodLink "MicroLc3Law" (56 : Nat) ({ cls := "MicroLc3Model", name := "count", desc := "()I" } : Jvm.MethodName)) ∈ lw_all := lw_g (lw_at lw_m2 43 rfl) rfl

/-! the law's own entry -/
set_option maxRecDepth 100000
abbrev cL_law : ByteArray := code
theorem dL_law_0 : decode cL_law 0 = .ok (.new 7, 3) := by decide +kernel
theorem dL_law_3 : decode cL_law 3 = .ok (.dup, 1) := by decide +kernel
theorem dL_law_4 : decode cL_law 4 = .ok (.invokespecial 9, 3) := by decide +kernel
theorem dL_law_7 : decode cL_law 7 = .ok (.astore_n 1, 1) := by decide +kernel
theorem dL_law_8 : decode cL_law 8 = .ok (.new 10, 3) := by decide +kernel
theorem dL_law_11 : decode cL_law 11 = .ok (.dup, 1) := by decide +kernel
theorem dL_law_12 : decode cL_law 12 = .ok (.invokespecial 12, 3) := by decide +kernel
theorem dL_law_15 : decode cL_law 15 = .ok (.astore_n 2, 1) := by decide +kernel
theorem dL_law_16 : decode cL_law 16 = .ok (.iconst 0, 1) := by decide +kernel
theorem dL_law_17 : decode cL_law 17 = .ok (.istore_n 3, 1) := by decide +kernel
theorem dL_law_18 : decode cL_law 18 = .ok (.iload_n 3, 1) := by decide +kernel
theorem dL_law_19 : decode cL_law 19 = .ok (.aload_n 0, 1) := by decide +kernel
theorem dL_law_20 : decode cL_law 20 = .ok (.arraylength, 1) := by decide +kernel
theorem dL_law_21 : decode cL_law 21 = .ok (.iconst 3, 1) := by decide +kernel
theorem dL_law_22 : decode cL_law 22 = .ok (.isub, 1) := by decide +kernel
theorem dL_law_23 : decode cL_law 23 = .ok (.if_icmp .gt 281, 3) := by decide +kernel
theorem dL_law_26 : decode cL_law 26 = .ok (.aload_n 0, 1) := by decide +kernel
theorem dL_law_27 : decode cL_law 27 = .ok (.iload_n 3, 1) := by decide +kernel
theorem dL_law_28 : decode cL_law 28 = .ok (.iaload, 1) := by decide +kernel
theorem dL_law_29 : decode cL_law 29 = .ok (.bipush 15, 2) := by decide +kernel
theorem dL_law_31 : decode cL_law 31 = .ok (.iand, 1) := by decide +kernel
theorem dL_law_32 : decode cL_law 32 = .ok (.tableswitch 266 0 9 #[56, 89, 112, 145, 168, 191, 214, 227, 240, 253], 56) := by decide +kernel
theorem dL_law_88 : decode cL_law 88 = .ok (.aload_n 1, 1) := by decide +kernel
theorem dL_law_89 : decode cL_law 89 = .ok (.aload_n 0, 1) := by decide +kernel
theorem dL_law_90 : decode cL_law 90 = .ok (.iload_n 3, 1) := by decide +kernel
theorem dL_law_91 : decode cL_law 91 = .ok (.iconst 1, 1) := by decide +kernel
theorem dL_law_92 : decode cL_law 92 = .ok (.iadd, 1) := by decide +kernel
theorem dL_law_93 : decode cL_law 93 = .ok (.iaload, 1) := by decide +kernel
theorem dL_law_94 : decode cL_law 94 = .ok (.aload_n 0, 1) := by decide +kernel
theorem dL_law_95 : decode cL_law 95 = .ok (.iload_n 3, 1) := by decide +kernel
theorem dL_law_96 : decode cL_law 96 = .ok (.iconst 2, 1) := by decide +kernel
theorem dL_law_97 : decode cL_law 97 = .ok (.iadd, 1) := by decide +kernel
theorem dL_law_98 : decode cL_law 98 = .ok (.iaload, 1) := by decide +kernel
theorem dL_law_99 : decode cL_law 99 = .ok (.invokevirtual 13, 3) := by decide +kernel
theorem dL_law_102 : decode cL_law 102 = .ok (.aload_n 2, 1) := by decide +kernel
theorem dL_law_103 : decode cL_law 103 = .ok (.aload_n 0, 1) := by decide +kernel
theorem dL_law_104 : decode cL_law 104 = .ok (.iload_n 3, 1) := by decide +kernel
theorem dL_law_105 : decode cL_law 105 = .ok (.iconst 1, 1) := by decide +kernel
theorem dL_law_106 : decode cL_law 106 = .ok (.iadd, 1) := by decide +kernel
theorem dL_law_107 : decode cL_law 107 = .ok (.iaload, 1) := by decide +kernel
theorem dL_law_108 : decode cL_law 108 = .ok (.aload_n 0, 1) := by decide +kernel
theorem dL_law_109 : decode cL_law 109 = .ok (.iload_n 3, 1) := by decide +kernel
theorem dL_law_110 : decode cL_law 110 = .ok (.iconst 2, 1) := by decide +kernel
theorem dL_law_111 : decode cL_law 111 = .ok (.iadd, 1) := by decide +kernel
theorem dL_law_112 : decode cL_law 112 = .ok (.iaload, 1) := by decide +kernel
theorem dL_law_113 : decode cL_law 113 = .ok (.invokevirtual 17, 3) := by decide +kernel
theorem dL_law_116 : decode cL_law 116 = .ok (.if_icmp .eq 182, 3) := by decide +kernel
theorem dL_law_119 : decode cL_law 119 = .ok (.iconst 0, 1) := by decide +kernel
theorem dL_law_120 : decode cL_law 120 = .ok (.ireturn, 1) := by decide +kernel
theorem dL_law_121 : decode cL_law 121 = .ok (.aload_n 1, 1) := by decide +kernel
theorem dL_law_122 : decode cL_law 122 = .ok (.aload_n 0, 1) := by decide +kernel
theorem dL_law_123 : decode cL_law 123 = .ok (.iload_n 3, 1) := by decide +kernel
theorem dL_law_124 : decode cL_law 124 = .ok (.iconst 1, 1) := by decide +kernel
theorem dL_law_125 : decode cL_law 125 = .ok (.iadd, 1) := by decide +kernel
theorem dL_law_126 : decode cL_law 126 = .ok (.iaload, 1) := by decide +kernel
theorem dL_law_127 : decode cL_law 127 = .ok (.invokevirtual 18, 3) := by decide +kernel
theorem dL_law_130 : decode cL_law 130 = .ok (.aload_n 2, 1) := by decide +kernel
theorem dL_law_131 : decode cL_law 131 = .ok (.aload_n 0, 1) := by decide +kernel
theorem dL_law_132 : decode cL_law 132 = .ok (.iload_n 3, 1) := by decide +kernel
theorem dL_law_133 : decode cL_law 133 = .ok (.iconst 1, 1) := by decide +kernel
theorem dL_law_134 : decode cL_law 134 = .ok (.iadd, 1) := by decide +kernel
theorem dL_law_135 : decode cL_law 135 = .ok (.iaload, 1) := by decide +kernel
theorem dL_law_136 : decode cL_law 136 = .ok (.invokevirtual 22, 3) := by decide +kernel
theorem dL_law_139 : decode cL_law 139 = .ok (.if_icmp .eq 159, 3) := by decide +kernel
theorem dL_law_142 : decode cL_law 142 = .ok (.iconst 0, 1) := by decide +kernel
theorem dL_law_143 : decode cL_law 143 = .ok (.ireturn, 1) := by decide +kernel
theorem dL_law_144 : decode cL_law 144 = .ok (.aload_n 1, 1) := by decide +kernel
theorem dL_law_145 : decode cL_law 145 = .ok (.aload_n 0, 1) := by decide +kernel
theorem dL_law_146 : decode cL_law 146 = .ok (.iload_n 3, 1) := by decide +kernel
theorem dL_law_147 : decode cL_law 147 = .ok (.iconst 1, 1) := by decide +kernel
theorem dL_law_148 : decode cL_law 148 = .ok (.iadd, 1) := by decide +kernel
theorem dL_law_149 : decode cL_law 149 = .ok (.iaload, 1) := by decide +kernel
theorem dL_law_150 : decode cL_law 150 = .ok (.aload_n 0, 1) := by decide +kernel
theorem dL_law_151 : decode cL_law 151 = .ok (.iload_n 3, 1) := by decide +kernel
theorem dL_law_152 : decode cL_law 152 = .ok (.iconst 2, 1) := by decide +kernel
theorem dL_law_153 : decode cL_law 153 = .ok (.iadd, 1) := by decide +kernel
theorem dL_law_154 : decode cL_law 154 = .ok (.iaload, 1) := by decide +kernel
theorem dL_law_155 : decode cL_law 155 = .ok (.invokevirtual 23, 3) := by decide +kernel
theorem dL_law_158 : decode cL_law 158 = .ok (.aload_n 2, 1) := by decide +kernel
theorem dL_law_159 : decode cL_law 159 = .ok (.aload_n 0, 1) := by decide +kernel
theorem dL_law_160 : decode cL_law 160 = .ok (.iload_n 3, 1) := by decide +kernel
theorem dL_law_161 : decode cL_law 161 = .ok (.iconst 1, 1) := by decide +kernel
theorem dL_law_162 : decode cL_law 162 = .ok (.iadd, 1) := by decide +kernel
theorem dL_law_163 : decode cL_law 163 = .ok (.iaload, 1) := by decide +kernel
theorem dL_law_164 : decode cL_law 164 = .ok (.aload_n 0, 1) := by decide +kernel
theorem dL_law_165 : decode cL_law 165 = .ok (.iload_n 3, 1) := by decide +kernel
theorem dL_law_166 : decode cL_law 166 = .ok (.iconst 2, 1) := by decide +kernel
theorem dL_law_167 : decode cL_law 167 = .ok (.iadd, 1) := by decide +kernel
theorem dL_law_168 : decode cL_law 168 = .ok (.iaload, 1) := by decide +kernel
theorem dL_law_169 : decode cL_law 169 = .ok (.invokevirtual 26, 3) := by decide +kernel
theorem dL_law_172 : decode cL_law 172 = .ok (.if_icmp .eq 126, 3) := by decide +kernel
theorem dL_law_175 : decode cL_law 175 = .ok (.iconst 0, 1) := by decide +kernel
theorem dL_law_176 : decode cL_law 176 = .ok (.ireturn, 1) := by decide +kernel
theorem dL_law_177 : decode cL_law 177 = .ok (.aload_n 1, 1) := by decide +kernel
theorem dL_law_178 : decode cL_law 178 = .ok (.aload_n 0, 1) := by decide +kernel
theorem dL_law_179 : decode cL_law 179 = .ok (.iload_n 3, 1) := by decide +kernel
theorem dL_law_180 : decode cL_law 180 = .ok (.iconst 1, 1) := by decide +kernel
theorem dL_law_181 : decode cL_law 181 = .ok (.iadd, 1) := by decide +kernel
theorem dL_law_182 : decode cL_law 182 = .ok (.iaload, 1) := by decide +kernel
theorem dL_law_183 : decode cL_law 183 = .ok (.invokevirtual 27, 3) := by decide +kernel
theorem dL_law_186 : decode cL_law 186 = .ok (.aload_n 2, 1) := by decide +kernel
theorem dL_law_187 : decode cL_law 187 = .ok (.aload_n 0, 1) := by decide +kernel
theorem dL_law_188 : decode cL_law 188 = .ok (.iload_n 3, 1) := by decide +kernel
theorem dL_law_189 : decode cL_law 189 = .ok (.iconst 1, 1) := by decide +kernel
theorem dL_law_190 : decode cL_law 190 = .ok (.iadd, 1) := by decide +kernel
theorem dL_law_191 : decode cL_law 191 = .ok (.iaload, 1) := by decide +kernel
theorem dL_law_192 : decode cL_law 192 = .ok (.invokevirtual 30, 3) := by decide +kernel
theorem dL_law_195 : decode cL_law 195 = .ok (.if_icmp .eq 103, 3) := by decide +kernel
theorem dL_law_198 : decode cL_law 198 = .ok (.iconst 0, 1) := by decide +kernel
theorem dL_law_199 : decode cL_law 199 = .ok (.ireturn, 1) := by decide +kernel
theorem dL_law_200 : decode cL_law 200 = .ok (.aload_n 1, 1) := by decide +kernel
theorem dL_law_201 : decode cL_law 201 = .ok (.aload_n 0, 1) := by decide +kernel
theorem dL_law_202 : decode cL_law 202 = .ok (.iload_n 3, 1) := by decide +kernel
theorem dL_law_203 : decode cL_law 203 = .ok (.iconst 1, 1) := by decide +kernel
theorem dL_law_204 : decode cL_law 204 = .ok (.iadd, 1) := by decide +kernel
theorem dL_law_205 : decode cL_law 205 = .ok (.iaload, 1) := by decide +kernel
theorem dL_law_206 : decode cL_law 206 = .ok (.invokevirtual 31, 3) := by decide +kernel
theorem dL_law_209 : decode cL_law 209 = .ok (.aload_n 2, 1) := by decide +kernel
theorem dL_law_210 : decode cL_law 210 = .ok (.aload_n 0, 1) := by decide +kernel
theorem dL_law_211 : decode cL_law 211 = .ok (.iload_n 3, 1) := by decide +kernel
theorem dL_law_212 : decode cL_law 212 = .ok (.iconst 1, 1) := by decide +kernel
theorem dL_law_213 : decode cL_law 213 = .ok (.iadd, 1) := by decide +kernel
theorem dL_law_214 : decode cL_law 214 = .ok (.iaload, 1) := by decide +kernel
theorem dL_law_215 : decode cL_law 215 = .ok (.invokevirtual 35, 3) := by decide +kernel
theorem dL_law_218 : decode cL_law 218 = .ok (.if_icmp .eq 80, 3) := by decide +kernel
theorem dL_law_221 : decode cL_law 221 = .ok (.iconst 0, 1) := by decide +kernel
theorem dL_law_222 : decode cL_law 222 = .ok (.ireturn, 1) := by decide +kernel
theorem dL_law_223 : decode cL_law 223 = .ok (.aload_n 1, 1) := by decide +kernel
theorem dL_law_224 : decode cL_law 224 = .ok (.aload_n 0, 1) := by decide +kernel
theorem dL_law_225 : decode cL_law 225 = .ok (.iload_n 3, 1) := by decide +kernel
theorem dL_law_226 : decode cL_law 226 = .ok (.iconst 1, 1) := by decide +kernel
theorem dL_law_227 : decode cL_law 227 = .ok (.iadd, 1) := by decide +kernel
theorem dL_law_228 : decode cL_law 228 = .ok (.iaload, 1) := by decide +kernel
theorem dL_law_229 : decode cL_law 229 = .ok (.invokevirtual 36, 3) := by decide +kernel
theorem dL_law_232 : decode cL_law 232 = .ok (.aload_n 2, 1) := by decide +kernel
theorem dL_law_233 : decode cL_law 233 = .ok (.aload_n 0, 1) := by decide +kernel
theorem dL_law_234 : decode cL_law 234 = .ok (.iload_n 3, 1) := by decide +kernel
theorem dL_law_235 : decode cL_law 235 = .ok (.iconst 1, 1) := by decide +kernel
theorem dL_law_236 : decode cL_law 236 = .ok (.iadd, 1) := by decide +kernel
theorem dL_law_237 : decode cL_law 237 = .ok (.iaload, 1) := by decide +kernel
theorem dL_law_238 : decode cL_law 238 = .ok (.invokevirtual 39, 3) := by decide +kernel
theorem dL_law_241 : decode cL_law 241 = .ok (.if_icmp .eq 57, 3) := by decide +kernel
theorem dL_law_244 : decode cL_law 244 = .ok (.iconst 0, 1) := by decide +kernel
theorem dL_law_245 : decode cL_law 245 = .ok (.ireturn, 1) := by decide +kernel
theorem dL_law_246 : decode cL_law 246 = .ok (.aload_n 1, 1) := by decide +kernel
theorem dL_law_247 : decode cL_law 247 = .ok (.invokevirtual 40, 3) := by decide +kernel
theorem dL_law_250 : decode cL_law 250 = .ok (.aload_n 2, 1) := by decide +kernel
theorem dL_law_251 : decode cL_law 251 = .ok (.invokevirtual 44, 3) := by decide +kernel
theorem dL_law_254 : decode cL_law 254 = .ok (.if_icmp .eq 44, 3) := by decide +kernel
theorem dL_law_257 : decode cL_law 257 = .ok (.iconst 0, 1) := by decide +kernel
theorem dL_law_258 : decode cL_law 258 = .ok (.ireturn, 1) := by decide +kernel
theorem dL_law_259 : decode cL_law 259 = .ok (.aload_n 1, 1) := by decide +kernel
theorem dL_law_260 : decode cL_law 260 = .ok (.invokevirtual 45, 3) := by decide +kernel
theorem dL_law_263 : decode cL_law 263 = .ok (.aload_n 2, 1) := by decide +kernel
theorem dL_law_264 : decode cL_law 264 = .ok (.invokevirtual 48, 3) := by decide +kernel
theorem dL_law_267 : decode cL_law 267 = .ok (.if_icmp .eq 31, 3) := by decide +kernel
theorem dL_law_270 : decode cL_law 270 = .ok (.iconst 0, 1) := by decide +kernel
theorem dL_law_271 : decode cL_law 271 = .ok (.ireturn, 1) := by decide +kernel
theorem dL_law_272 : decode cL_law 272 = .ok (.aload_n 1, 1) := by decide +kernel
theorem dL_law_273 : decode cL_law 273 = .ok (.invokevirtual 49, 3) := by decide +kernel
theorem dL_law_276 : decode cL_law 276 = .ok (.aload_n 2, 1) := by decide +kernel
theorem dL_law_277 : decode cL_law 277 = .ok (.invokevirtual 52, 3) := by decide +kernel
theorem dL_law_280 : decode cL_law 280 = .ok (.if_icmp .eq 18, 3) := by decide +kernel
theorem dL_law_283 : decode cL_law 283 = .ok (.iconst 0, 1) := by decide +kernel
theorem dL_law_284 : decode cL_law 284 = .ok (.ireturn, 1) := by decide +kernel
theorem dL_law_285 : decode cL_law 285 = .ok (.aload_n 1, 1) := by decide +kernel
theorem dL_law_286 : decode cL_law 286 = .ok (.invokevirtual 53, 3) := by decide +kernel
theorem dL_law_289 : decode cL_law 289 = .ok (.aload_n 2, 1) := by decide +kernel
theorem dL_law_290 : decode cL_law 290 = .ok (.invokevirtual 56, 3) := by decide +kernel
theorem dL_law_293 : decode cL_law 293 = .ok (.if_icmp .eq 5, 3) := by decide +kernel
theorem dL_law_296 : decode cL_law 296 = .ok (.iconst 0, 1) := by decide +kernel
theorem dL_law_297 : decode cL_law 297 = .ok (.ireturn, 1) := by decide +kernel
theorem dL_law_298 : decode cL_law 298 = .ok (.iinc 3 3, 3) := by decide +kernel
theorem dL_law_301 : decode cL_law 301 = .ok (.goto (-283), 3) := by decide +kernel
theorem dL_law_304 : decode cL_law 304 = .ok (.iconst 1, 1) := by decide +kernel
theorem dL_law_305 : decode cL_law 305 = .ok (.ireturn, 1) := by decide +kernel
end
section
/-! The pure picture: MicroLc3's state mc_S0, MicroLc3Model's state mc_S1, one function a method, as the bytecode reckons. -/
/-- memory, registers, pc, signBits, statusNow, executed, state, mar, mdr, ir -/
abbrev mc_S0 : Type := (Nat → Int32) × (Nat → Int32) × Int32 × Int32 × Int32 × Int32 × Int32 × Int32 × Int32 × Int32
abbrev s_mm (u : mc_S0) : Nat → Int32 := u.1
abbrev s_rr (u : mc_S0) : Nat → Int32 := u.2.1
abbrev s_pc (u : mc_S0) : Int32 := u.2.2.1
abbrev s_sg (u : mc_S0) : Int32 := u.2.2.2.1
abbrev s_st (u : mc_S0) : Int32 := u.2.2.2.2.1
abbrev s_ex (u : mc_S0) : Int32 := u.2.2.2.2.2.1
abbrev s_state (u : mc_S0) : Int32 := u.2.2.2.2.2.2.1
abbrev s_mar (u : mc_S0) : Int32 := u.2.2.2.2.2.2.2.1
abbrev s_mdr (u : mc_S0) : Int32 := u.2.2.2.2.2.2.2.2.1
abbrev s_ir (u : mc_S0) : Int32 := u.2.2.2.2.2.2.2.2.2
abbrev put_mm (u : mc_S0) (x : Nat → Int32) : mc_S0 := (x, s_rr u, s_pc u, s_sg u, s_st u, s_ex u, s_state u, s_mar u, s_mdr u, s_ir u)
abbrev put_rr (u : mc_S0) (x : Nat → Int32) : mc_S0 := (s_mm u, x, s_pc u, s_sg u, s_st u, s_ex u, s_state u, s_mar u, s_mdr u, s_ir u)
abbrev put_pc (u : mc_S0) (x : Int32) : mc_S0 := (s_mm u, s_rr u, x, s_sg u, s_st u, s_ex u, s_state u, s_mar u, s_mdr u, s_ir u)
abbrev put_sg (u : mc_S0) (x : Int32) : mc_S0 := (s_mm u, s_rr u, s_pc u, x, s_st u, s_ex u, s_state u, s_mar u, s_mdr u, s_ir u)
abbrev put_st (u : mc_S0) (x : Int32) : mc_S0 := (s_mm u, s_rr u, s_pc u, s_sg u, x, s_ex u, s_state u, s_mar u, s_mdr u, s_ir u)
abbrev put_ex (u : mc_S0) (x : Int32) : mc_S0 := (s_mm u, s_rr u, s_pc u, s_sg u, s_st u, x, s_state u, s_mar u, s_mdr u, s_ir u)
abbrev put_state (u : mc_S0) (x : Int32) : mc_S0 := (s_mm u, s_rr u, s_pc u, s_sg u, s_st u, s_ex u, x, s_mar u, s_mdr u, s_ir u)
abbrev put_mar (u : mc_S0) (x : Int32) : mc_S0 := (s_mm u, s_rr u, s_pc u, s_sg u, s_st u, s_ex u, s_state u, x, s_mdr u, s_ir u)
abbrev put_mdr (u : mc_S0) (x : Int32) : mc_S0 := (s_mm u, s_rr u, s_pc u, s_sg u, s_st u, s_ex u, s_state u, s_mar u, x, s_ir u)
abbrev put_ir (u : mc_S0) (x : Int32) : mc_S0 := (s_mm u, s_rr u, s_pc u, s_sg u, s_st u, s_ex u, s_state u, s_mar u, s_mdr u, x)
/-- regs, cells, pc, sign, status, count -/
abbrev mc_S1 : Type := (Nat → Int32) × (Nat → Int32) × Int32 × Int32 × Int32 × Int32
abbrev t_rr (v : mc_S1) : Nat → Int32 := v.1
abbrev t_mm (v : mc_S1) : Nat → Int32 := v.2.1
abbrev t_pc (v : mc_S1) : Int32 := v.2.2.1
abbrev t_sg (v : mc_S1) : Int32 := v.2.2.2.1
abbrev t_st (v : mc_S1) : Int32 := v.2.2.2.2.1
abbrev t_ex (v : mc_S1) : Int32 := v.2.2.2.2.2
abbrev putt_rr (v : mc_S1) (x : Nat → Int32) : mc_S1 := (x, t_mm v, t_pc v, t_sg v, t_st v, t_ex v)
abbrev putt_mm (v : mc_S1) (x : Nat → Int32) : mc_S1 := (t_rr v, x, t_pc v, t_sg v, t_st v, t_ex v)
abbrev putt_pc (v : mc_S1) (x : Int32) : mc_S1 := (t_rr v, t_mm v, x, t_sg v, t_st v, t_ex v)
abbrev putt_sg (v : mc_S1) (x : Int32) : mc_S1 := (t_rr v, t_mm v, t_pc v, x, t_st v, t_ex v)
abbrev putt_st (v : mc_S1) (x : Int32) : mc_S1 := (t_rr v, t_mm v, t_pc v, t_sg v, x, t_ex v)
abbrev putt_ex (v : mc_S1) (x : Int32) : mc_S1 := (t_rr v, t_mm v, t_pc v, t_sg v, t_st v, x)
-- ===== MicroLc3, method by method =====
def hasF (a b : Int32) : Int32 := if a &&& b = 0 then 0 else 1
def extF (w b : Int32) : Int32 := if ((w &&& (((1 : Int32) <<< (b &&& 31)) - 1)) >>> ((b - 1) &&& 31)) &&& 1 = 0 then w &&& (((1 : Int32) <<< (b &&& 31)) - 1) else (w &&& (((1 : Int32) <<< (b &&& 31)) - 1)) ||| (65535 &&& ((((1 : Int32) <<< (b &&& 31)) - 1) ^^^ (-1)))
def srcF (g : Int32) (u : mc_S0) : Int32 := if hasF g 1048576 = 0 then s_rr u ((s_ir u >>> ((6 : Int32) &&& 31)) &&& 7).toNatClampNeg else s_rr u ((s_ir u >>> ((9 : Int32) &&& 31)) &&& 7).toNatClampNeg
def nextF (g : Int32) (u : mc_S0) : Int32 := if g &&& 192 = 64 then s_ir u >>> ((12 : Int32) &&& 31) else if g &&& 192 = 128 then (if (s_ir u >>> ((9 : Int32) &&& 31)) &&& s_sg u = 0 then g &&& 63 else (g &&& 63) ||| 4) else if g &&& 192 = 192 then (g &&& 63) ||| ((s_ir u >>> ((11 : Int32) &&& 31)) &&& 1) else g &&& 63
def baseF (g : Int32) (u : mc_S0) : Int32 := if hasF g 2097152 = 0 then s_pc u else srcF g u
def of1F (g : Int32) (u : mc_S0) : Int32 := if g &&& 12582912 = 4194304 then extF (s_ir u) 6 else 0
def of2F (g : Int32) (u : mc_S0) : Int32 := if g &&& 12582912 = 8388608 then extF (s_ir u) 9 else of1F g u
def of3F (g : Int32) (u : mc_S0) : Int32 := if g &&& 12582912 = 12582912 then extF (s_ir u) 11 else of2F g u
def addF (g : Int32) (u : mc_S0) : Int32 := (baseF g u + of3F g u) &&& 65535
def secF (u : mc_S0) : Int32 := if (s_ir u >>> ((5 : Int32) &&& 31)) &&& 1 = 0 then s_rr u (s_ir u &&& 7).toNatClampNeg else extF (s_ir u) 5
def aluF (g : Int32) (u : mc_S0) : Int32 := if g &&& 50331648 = 16777216 then srcF g u &&& secF u else if g &&& 50331648 = 33554432 then (srcF g u ^^^ (-1)) &&& 65535 else if g &&& 50331648 = 50331648 then srcF g u else (srcF g u + secF u) &&& 65535
def busF (g ad : Int32) (u : mc_S0) : Int32 := if g &&& 114688 = 16384 then s_pc u else if g &&& 114688 = 32768 then s_mdr u else if g &&& 114688 = 49152 then aluF g u else if g &&& 114688 = 65536 then ad else 0
def pciF (g bus ad : Int32) (u : mc_S0) : Int32 := if g &&& 393216 = 131072 then bus else if g &&& 393216 = 262144 then ad else (s_pc u + 1) &&& 65535
def cy1 (g : Int32) (u : mc_S0) : mc_S0 := if hasF g 134217728 = 0 then u else put_mm u (upd (s_mm u) (s_mar u &&& 63).toNatClampNeg (s_mdr u))
def cy2 (g bus : Int32) (u : mc_S0) : mc_S0 := if hasF g 256 = 0 then u else put_mar u bus
def cy3 (g bus fm : Int32) (u : mc_S0) : mc_S0 := if hasF g 512 = 0 then u else if hasF g 67108864 = 0 then put_mdr u bus else put_mdr u fm
def cy4 (g bus : Int32) (u : mc_S0) : mc_S0 := if hasF g 4096 = 0 then u else if hasF g 524288 = 0 then put_rr u (upd (s_rr u) ((s_ir u >>> ((9 : Int32) &&& 31)) &&& 7).toNatClampNeg bus) else put_rr u (upd (s_rr u) (7 : Int32).toNatClampNeg bus)
def cy5 (g bus : Int32) (u : mc_S0) : mc_S0 := if hasF g 8192 = 0 then u else if bus < 32768 then (if bus = 0 then put_sg u 2 else put_sg u 1) else put_sg u 4
def cy6 (g np : Int32) (u : mc_S0) : mc_S0 := if hasF g 2048 = 0 then u else put_pc u np
def cy7 (g bus : Int32) (u : mc_S0) : mc_S0 := if hasF g 1024 = 0 then u else put_ir u bus
def cy8 (g : Int32) (u : mc_S0) : mc_S0 := if hasF g 268435456 = 0 then u else put_st u 1
def cy9 (g : Int32) (u : mc_S0) : mc_S0 := if hasF g 536870912 = 0 then u else put_st u 2
/-- all loads, from what was there before: ad, bus, fm, np, nx -/
def cyL (g bus fm np nx : Int32) (u : mc_S0) : mc_S0 := put_state (cy9 g (cy8 g (cy7 g bus (cy6 g np (cy5 g bus (cy4 g bus (cy3 g bus fm (cy2 g bus (cy1 g u))))))))) nx
def cycS (g : Int32) (u : mc_S0) : mc_S0 := cyL g (busF g (addF g u) u) (s_mm u (s_mar u &&& 63).toNatClampNeg) (pciF g (busF g (addF g u) u) (addF g u) u) (nextF g u) u
def cyc (ct : Nat → Int32) (u : mc_S0) : mc_S0 := cycS (ct (s_state u).toNatClampNeg) u
/-- the inner loop of step: at most n cycles, until FETCH -/
def innF (ct : Nat → Int32) : Nat → mc_S0 → mc_S0
  | 0, u => u
  | n + 1, u => if s_state u = 18 then u else innF ct n (cyc ct u)
def insF (ct : Nat → Int32) (u : mc_S0) : mc_S0 := innF ct 10 (cyc ct u)
def runF (ct : Nat → Int32) : Nat → mc_S0 → Nat → mc_S0 × Nat
  | 0, u, k => (u, k)
  | n + 1, u, k => if s_st u = 0 then runF ct n (insF ct u) (k + 1) else (u, k)
/-- step's own bound -/
def wantF (n : Int32) : Nat := if 0 ≤ n then (if n ≤ 100 then n.toNatClampNeg else 100) else 0
def stepF (ct : Nat → Int32) (n : Int32) (u : mc_S0) : mc_S0 × Nat := runF ct (wantF n) u 0
def pokeF (u : mc_S0) (a b : Int32) : Int32 × mc_S0 := if a < 0 then (0, u) else if 63 < a then (0, u) else if b < 0 then (0, u) else if b ≤ 65535 then (1, put_mm u (upd (s_mm u) a.toNatClampNeg b)) else (0, u)
def setF (u : mc_S0) (a b : Int32) : Int32 × mc_S0 := if a < 0 then (0, u) else if 7 < a then (0, u) else if b < 0 then (0, u) else if b ≤ 65535 then (1, put_rr u (upd (s_rr u) a.toNatClampNeg b)) else (0, u)
def peekF (u : mc_S0) (a : Int32) : Int32 := if a < 0 then -1 else if a ≤ 63 then s_mm u a.toNatClampNeg else -1
def regF (u : mc_S0) (a : Int32) : Int32 := if a < 0 then -1 else if a ≤ 7 then s_rr u a.toNatClampNeg else -1
def startF (u : mc_S0) (b : Int32) : Int32 × mc_S0 := if b < 0 then (0, u) else if b ≤ 65535 then (1, put_st (put_pc u b) 0) else (0, u)
def signF (u : mc_S0) : Int32 := if s_sg u = 4 then -1 else if s_sg u = 2 then 0 else 1
-- ===== MicroLc3Model, method by method =====
def isWF (w : Int32) : Int32 := if w < 0 then 0 else if 65535 < w then 0 else 1
def sgnF (w k : Int32) : Int32 := if w - w / ((1 : Int32) <<< (k &&& 31)) * ((1 : Int32) <<< (k &&& 31)) < (1 : Int32) <<< ((k - 1) &&& 31) then w - w / ((1 : Int32) <<< (k &&& 31)) * ((1 : Int32) <<< (k &&& 31)) else w - w / ((1 : Int32) <<< (k &&& 31)) * ((1 : Int32) <<< (k &&& 31)) - ((1 : Int32) <<< (k &&& 31))
def wordF (x : Int32) : Int32 := x &&& 65535
/-- 'sign' of what was given -/
def sgOf (r : Int32) : Int32 := if 0 ≤ r then (if r ≤ 0 then 0 else 1) else -1
def giveF (dd x : Int32) (v : mc_S1) : mc_S1 := putt_sg (putt_rr v (upd (t_rr v) dd.toNatClampNeg (wordF x))) (sgOf (sgnF (upd (t_rr v) dd.toNatClampNeg (wordF x) dd.toNatClampNeg) 16))
def takF (ir : Int32) (v : mc_S1) : Int32 := if 0 ≤ t_sg v then (if t_sg v = 0 then (if (ir >>> ((10 : Int32) &&& 31)) &&& 1 = 1 then 1 else 0) else (if (ir >>> ((9 : Int32) &&& 31)) &&& 1 = 1 then 1 else 0)) else (if (ir >>> ((11 : Int32) &&& 31)) &&& 1 = 1 then 1 else 0)
abbrev d_of (ir : Int32) : Int32 := (ir >>> ((9 : Int32) &&& 31)) &&& 7
abbrev s_of (ir : Int32) : Int32 := (ir >>> ((6 : Int32) &&& 31)) &&& 7
def othF (ir : Int32) (v : mc_S1) : Int32 := if (ir >>> ((5 : Int32) &&& 31)) &&& 1 = 0 then t_rr v (ir &&& 7).toNatClampNeg else sgnF ir 5
def ca1 (op ir oth : Int32) (v : mc_S1) : mc_S1 := if op = 1 then giveF (d_of ir) (t_rr v (s_of ir).toNatClampNeg + oth) v else v
def ca2 (op ir oth : Int32) (v : mc_S1) : mc_S1 := if op = 5 then giveF (d_of ir) (t_rr v (s_of ir).toNatClampNeg &&& oth) v else v
def ca3 (op ir : Int32) (v : mc_S1) : mc_S1 := if op = 9 then giveF (d_of ir) (65535 - t_rr v (s_of ir).toNatClampNeg) v else v
def ca4 (op ir off : Int32) (v : mc_S1) : mc_S1 := if op = 14 then giveF (d_of ir) (t_pc v + off) v else v
def calF (op ir : Int32) (v : mc_S1) : mc_S1 := ca4 op ir (sgnF ir 9) (ca3 op ir (ca2 op ir (othF ir v) (ca1 op ir (othF ir v) v)))
abbrev neaF (ir : Int32) (v : mc_S1) : Int32 := (t_pc v + sgnF ir 9) &&& 63
abbrev basF (ir : Int32) (v : mc_S1) : Int32 := (t_rr v (s_of ir).toNatClampNeg + sgnF ir 6) &&& 63
abbrev farF (ir : Int32) (v : mc_S1) : Int32 := t_mm v (neaF ir v).toNatClampNeg &&& 63
def mo1 (op ir i : Int32) (v : mc_S1) : mc_S1 := if op = 2 then giveF (d_of ir) (t_mm v i.toNatClampNeg) v else v
def mo2 (op ir i : Int32) (v : mc_S1) : mc_S1 := if op = 6 then giveF (d_of ir) (t_mm v i.toNatClampNeg) v else v
def mo3 (op ir i : Int32) (v : mc_S1) : mc_S1 := if op = 10 then giveF (d_of ir) (t_mm v i.toNatClampNeg) v else v
def mo4 (op ir i : Int32) (v : mc_S1) : mc_S1 := if op = 3 then putt_mm v (upd (t_mm v) i.toNatClampNeg (t_rr v (d_of ir).toNatClampNeg)) else v
def mo5 (op ir i : Int32) (v : mc_S1) : mc_S1 := if op = 7 then putt_mm v (upd (t_mm v) i.toNatClampNeg (t_rr v (d_of ir).toNatClampNeg)) else v
def mo6 (op ir i : Int32) (v : mc_S1) : mc_S1 := if op = 11 then putt_mm v (upd (t_mm v) i.toNatClampNeg (t_rr v (d_of ir).toNatClampNeg)) else v
def movF (op ir : Int32) (v : mc_S1) : mc_S1 := mo6 op ir (farF ir v) (mo5 op ir (basF ir v) (mo4 op ir (neaF ir v) (mo3 op ir (farF ir v) (mo2 op ir (basF ir v) (mo1 op ir (neaF ir v) v)))))
def go1 (op ir off : Int32) (v : mc_S1) : mc_S1 := if op = 0 then (if takF ir v = 0 then v else putt_pc v (wordF (t_pc v + off))) else v
def go2 (op bas : Int32) (v : mc_S1) : mc_S1 := if op = 12 then putt_pc v bas else v
def go3 (op ir bas here far : Int32) (v : mc_S1) : mc_S1 := if op = 4 then (if (ir >>> ((11 : Int32) &&& 31)) &&& 1 = 1 then putt_pc (putt_rr v (upd (t_rr v) (7 : Int32).toNatClampNeg here)) (wordF (here + far)) else putt_pc (putt_rr v (upd (t_rr v) (7 : Int32).toNatClampNeg here)) bas) else v
def go4 (op : Int32) (v : mc_S1) : mc_S1 := if op = 15 then putt_st v 1 else v
def go5 (op : Int32) (v : mc_S1) : mc_S1 := if op = 8 then putt_st v 2 else if op = 13 then putt_st v 2 else v
def goF (op ir : Int32) (v : mc_S1) : mc_S1 := go5 op (go4 op (go3 op ir (t_rr v (s_of ir).toNatClampNeg) (t_pc v) (sgnF ir 11) (go2 op (t_rr v (s_of ir).toNatClampNeg) (go1 op ir (sgnF ir 9) v))))
/-- execute behind its fetch -/
def exeS (op ir : Int32) (v : mc_S1) : mc_S1 := goF op ir (movF op ir (calF op ir v))
abbrev fetF (v : mc_S1) : Int32 := t_mm v (t_pc v &&& 63).toNatClampNeg
def exeF (v : mc_S1) : mc_S1 := exeS (fetF v >>> ((12 : Int32) &&& 31)) (fetF v) (putt_pc v (wordF (t_pc v + 1)))
def runG : Nat → mc_S1 → Nat → mc_S1 × Nat
  | 0, v, k => (v, k)
  | n + 1, v, k => if t_st v = 0 then runG n (exeF v) (k + 1) else (v, k)
def stepG (n : Int32) (v : mc_S1) : mc_S1 × Nat := runG (wantF n) v 0
def pokeG (v : mc_S1) (a b : Int32) : Int32 × mc_S1 := if a < 0 then (0, v) else if 63 < a then (0, v) else if isWF b = 0 then (0, v) else (1, putt_mm v (upd (t_mm v) a.toNatClampNeg b))
def setG (v : mc_S1) (a b : Int32) : Int32 × mc_S1 := if a < 0 then (0, v) else if 7 < a then (0, v) else if isWF b = 0 then (0, v) else (1, putt_rr v (upd (t_rr v) a.toNatClampNeg b))
def peekG (v : mc_S1) (a : Int32) : Int32 := if a < 0 then -1 else if 63 < a then -1 else t_mm v a.toNatClampNeg
def regG (v : mc_S1) (a : Int32) : Int32 := if a < 0 then -1 else if 7 < a then -1 else t_rr v a.toNatClampNeg
def startG (v : mc_S1) (b : Int32) : Int32 × mc_S1 := if isWF b = 0 then (0, v) else (1, putt_st (putt_pc v b) 0)
-- ===== the worlds =====
abbrev vwCl : List vw_C := [(RX0, TX0, 11), (RX1, TX1, 6)]
/-- a MicroLc3 at h0 with its three arrays -/
abbrev mc_W0 (h0 qc qm qr : Nat) (d : ClassId) (ct : Nat → Int32) (u : mc_S0) : va_W := [(h0, .inr (0, [.ref qc, .ref qm, .ref qr, .int (s_pc u), .int (s_sg u), .int (s_st u), .int (s_ex u), .int (s_state u), .int (s_mar u), .int (s_mdr u), .int (s_ir u)])), (qc, .inl (d, 64, .inl ct)), (qm, .inl (d, 64, .inl (s_mm u))), (qr, .inl (d, 8, .inl (s_rr u)))]
/-- a MicroLc3Model at g0 with its two arrays -/
abbrev mc_W1 (g0 pr pm : Nat) (d : ClassId) (v : mc_S1) : va_W := [(g0, .inr (1, [.ref pr, .ref pm, .int (t_pc v), .int (t_sg v), .int (t_st v), .int (t_ex v)])), (pr, .inl (d, 8, .inl (t_rr v))), (pm, .inl (d, 64, .inl (t_mm v)))]
abbrev mc_B0 (dC : Nat → ClassId) (dI : Nat → Nat → Nat) (A : Nat → Prop) (h0 qc qm qr : Nat) (d : ClassId) (ct : Nat → Int32) (u : mc_S0) (t : State) : Prop := va_P (dC, dI) vwCl (mc_W0 h0 qc qm qr d ct u) t.heap ∧ va_K (dC, dI) vwCl [(d, .int)] t ∧ va_D A (mc_W0 h0 qc qm qr d ct u)
abbrev mc_B1 (dC : Nat → ClassId) (dI : Nat → Nat → Nat) (A : Nat → Prop) (g0 pr pm : Nat) (d : ClassId) (v : mc_S1) (t : State) : Prop := va_P (dC, dI) vwCl (mc_W1 g0 pr pm d v) t.heap ∧ va_K (dC, dI) vwCl [(d, .int)] t ∧ va_D A (mc_W1 g0 pr pm d v)
abbrev mc_P0 (dC : Nat → ClassId) (dI : Nat → Nat → Nat) (h0 qc qm qr : Nat) (d : ClassId) (ct : Nat → Int32) (sz : Nat) (u : mc_S0) (U : State) : Prop := U.heap.size = sz ∧ va_P (dC, dI) vwCl (mc_W0 h0 qc qm qr d ct u) U.heap ∧ va_K (dC, dI) vwCl [(d, .int)] U ∧ va_D (fun _ => True) (mc_W0 h0 qc qm qr d ct u)
abbrev mc_P1 (dC : Nat → ClassId) (dI : Nat → Nat → Nat) (g0 pr pm : Nat) (d : ClassId) (sz : Nat) (v : mc_S1) (U : State) : Prop := U.heap.size = sz ∧ va_P (dC, dI) vwCl (mc_W1 g0 pr pm d v) U.heap ∧ va_K (dC, dI) vwCl [(d, .int)] U ∧ va_D (fun _ => True) (mc_W1 g0 pr pm d v)
theorem in7 (x : Int32) : vp_in (x &&& 7) 8 := pk_andIn x (m := 7) 3 (by decide) (by decide)
theorem in63 (x : Int32) : vp_in (x &&& 63) 64 := pk_andIn x (m := 63) 6 (by decide) (by decide)
theorem in_le {x M : Int32} {n : Nat} (hM : M.toInt = (n : Int)) (h0 : ¬ x < 0) (h1 : x ≤ M) : vp_in x (n + 1) := by
  rw [vp_in_iff]
  have a := Int32.le_iff_toInt_le.mp h1
  have b : ¬ x.toInt < (0 : Int32).toInt := fun h => h0 (Int32.lt_iff_toInt_lt.mpr h)
  have c : (0 : Int32).toInt = 0 := by decide
  rw [c] at b
  omega
theorem in_lt {x M : Int32} {n : Nat} (hM : M.toInt = (n : Int)) (h0 : ¬ x < 0) (h1 : ¬ M < x) : vp_in x (n + 1) := in_le hM h0 (Int32.not_lt.mp h1)
theorem mc_same {D : va_G} {cl : List vw_C} {tys : List (ClassId × FieldType)} {U : State} {i j : Nat} {c1 c2 : ClassId} (hK : va_K D cl tys U) (h1 : tys[i]? = some (c1, .int)) (h2 : tys[j]? = some (c2, .int)) : c1 = c2 := by
  have a : U.vm.findClass ("[" ++ FieldType.int.toString) = some c1 := (hK.2 i _ h1).2
  have b : U.vm.findClass ("[" ++ FieldType.int.toString) = some c2 := (hK.2 j _ h2).2
  exact Option.some.inj (a.symm.trans b)
-- ===== what stays within bounds: words of 16 bits, the sequencer's state below 64 =====
def mc_W16 (x : Int32) : Prop := x &&& 65535 = x
def mc_Gd (u : mc_S0) : Prop := mc_W16 (s_pc u) ∧ mc_W16 (s_mdr u) ∧ mc_W16 (s_ir u) ∧ (∀ j, mc_W16 (s_mm u j)) ∧ ∀ j, mc_W16 (s_rr u j)
def mc_Good (u : mc_S0) : Prop := vp_in (s_state u) 64 ∧ mc_Gd u
theorem w16_and (x : Int32) : mc_W16 (x &&& 65535) := by
  unfold mc_W16
  rw [Int32.and_assoc, Int32.and_self]
theorem w16_andl {a : Int32} (b : Int32) (h : mc_W16 a) : mc_W16 (a &&& b) := by
  unfold mc_W16 at *
  rw [Int32.and_assoc, Int32.and_comm b, ← Int32.and_assoc, h]
theorem w16_0 : mc_W16 0 := by unfold mc_W16; decide
theorem w16_nI {x : Int32} (h : mc_W16 x) : ∃ n : Nat, n < 65536 ∧ x = nI n := by
  obtain ⟨j, hj, e⟩ := pk_andE x (m := 65535) 16 (by decide)
  exact ⟨j, hj, by rw [← e]; exact h.symm⟩
theorem w16_of {n : Nat} (h : n < 65536) : mc_W16 (nI n) := by
  unfold mc_W16
  rw [pk_andN (by omega) (m := 65535) 16 (by decide), Nat.mod_eq_of_lt (by omega)]
theorem w16_upd {f : Nat → Int32} {k : Nat} {x : Int32} (hf : ∀ j, mc_W16 (f j)) (hx : mc_W16 x) : ∀ j, mc_W16 (upd f k x j) := by
  intro j
  unfold upd
  split
  · exact hx
  · exact hf j
theorem good_src {g : Int32} {u : mc_S0} (h : mc_Gd u) : mc_W16 (srcF g u) := by
  unfold srcF
  split
  · exact h.2.2.2.2 _
  · exact h.2.2.2.2 _
theorem good_alu {g : Int32} {u : mc_S0} (h : mc_Gd u) : mc_W16 (aluF g u) := by
  unfold aluF
  split
  · exact w16_andl _ (good_src h)
  · split
    · exact w16_and _
    · split
      · exact good_src h
      · exact w16_and _
theorem good_bus {g ad : Int32} {u : mc_S0} (ha : mc_W16 ad) (h : mc_Gd u) : mc_W16 (busF g ad u) := by
  unfold busF
  split
  · exact h.1
  · split
    · exact h.2.1
    · split
      · exact good_alu h
      · split
        · exact ha
        · exact w16_0
theorem good_pci {g bus ad : Int32} {u : mc_S0} (hb : mc_W16 bus) (ha : mc_W16 ad) : mc_W16 (pciF g bus ad u) := by
  unfold pciF
  split
  · exact hb
  · split
    · exact ha
    · exact w16_and _
theorem or_4 : ∀ j, j < 64 → vp_in (nI j ||| 4) 64 := by
  unfold vp_in nI
  decide +kernel
theorem or_1 : ∀ j, j < 64 → ∀ k, k < 2 → vp_in (nI j ||| nI k) 64 := by
  unfold vp_in nI
  decide +kernel
theorem good_next {g : Int32} {u : mc_S0} (h : mc_Gd u) : vp_in (nextF g u) 64 := by
  obtain ⟨j, hj, e⟩ := pk_andE g (m := 63) 6 (by decide)
  have hj : j < 64 := hj
  unfold nextF
  split
  · obtain ⟨n, hn, en⟩ := w16_nI h.2.2.1
    rw [en, pk_shrN (by omega) _ 12 (by decide)]
    exact vp_in_nI (by omega) (by decide)
  · split
    · split
      · exact in63 _
      · rw [e]; exact or_4 j hj
    · split
      · obtain ⟨k, hk, ek⟩ := pk_andE (s_ir u >>> ((11 : Int32) &&& 31)) (m := 1) 1 (by decide)
        rw [e, ek]; exact or_1 j hj k hk
      · exact in63 _
theorem gd1 {g : Int32} {u : mc_S0} (h : mc_Gd u) : mc_Gd (cy1 g u) := by
  unfold cy1
  split
  · exact h
  · exact ⟨h.1, h.2.1, h.2.2.1, w16_upd h.2.2.2.1 h.2.1, h.2.2.2.2⟩
theorem gd2 {g b : Int32} {u : mc_S0} (h : mc_Gd u) : mc_Gd (cy2 g b u) := by
  unfold cy2
  split
  · exact h
  · exact h
theorem gd3 {g b f : Int32} {u : mc_S0} (hb : mc_W16 b) (hf : mc_W16 f) (h : mc_Gd u) : mc_Gd (cy3 g b f u) := by
  unfold cy3
  split
  · exact h
  · split
    · exact ⟨h.1, hb, h.2.2⟩
    · exact ⟨h.1, hf, h.2.2⟩
theorem gd4 {g b : Int32} {u : mc_S0} (hb : mc_W16 b) (h : mc_Gd u) : mc_Gd (cy4 g b u) := by
  unfold cy4
  split
  · exact h
  · split
    · exact ⟨h.1, h.2.1, h.2.2.1, h.2.2.2.1, w16_upd h.2.2.2.2 hb⟩
    · exact ⟨h.1, h.2.1, h.2.2.1, h.2.2.2.1, w16_upd h.2.2.2.2 hb⟩
theorem gd5 {g b : Int32} {u : mc_S0} (h : mc_Gd u) : mc_Gd (cy5 g b u) := by
  unfold cy5
  split
  · exact h
  · split
    · split
      · exact h
      · exact h
    · exact h
theorem gd6 {g b : Int32} {u : mc_S0} (hb : mc_W16 b) (h : mc_Gd u) : mc_Gd (cy6 g b u) := by
  unfold cy6
  split
  · exact h
  · exact ⟨hb, h.2⟩
theorem gd7 {g b : Int32} {u : mc_S0} (hb : mc_W16 b) (h : mc_Gd u) : mc_Gd (cy7 g b u) := by
  unfold cy7
  split
  · exact h
  · exact ⟨h.1, h.2.1, hb, h.2.2.2⟩
theorem gd8 {g : Int32} {u : mc_S0} (h : mc_Gd u) : mc_Gd (cy8 g u) := by
  unfold cy8
  split
  · exact h
  · exact h
theorem gd9 {g : Int32} {u : mc_S0} (h : mc_Gd u) : mc_Gd (cy9 g u) := by
  unfold cy9
  split
  · exact h
  · exact h
theorem good_cyc (ct : Nat → Int32) {u : mc_S0} (h : mc_Good u) : mc_Good (cyc ct u) := by
  have hd := h.2
  have ha : mc_W16 (addF (ct (s_state u).toNatClampNeg) u) := by unfold addF; exact w16_and _
  have hb := good_bus (g := ct (s_state u).toNatClampNeg) ha hd
  unfold cyc cycS cyL
  exact ⟨good_next hd, gd9 (gd8 (gd7 hb (gd6 (good_pci hb ha) (gd5 (gd4 hb (gd3 hb (hd.2.2.2.1 _) (gd2 (gd1 hd))))))))⟩
theorem good_inn (ct : Nat → Int32) : ∀ (n : Nat) {u : mc_S0}, mc_Good u → mc_Good (innF ct n u)
  | 0, _, h => h
  | n + 1, u, h => by
    unfold innF
    split
    · exact h
    · exact good_inn ct n (good_cyc ct h)
theorem good_ins (ct : Nat → Int32) {u : mc_S0} (h : mc_Good u) : mc_Good (insF ct u) := good_inn ct 10 (good_cyc ct h)
theorem good_run (ct : Nat → Int32) : ∀ (n k : Nat) {u : mc_S0}, mc_Good u → mc_Good (runF ct n u k).1
  | 0, _, _, h => h
  | n + 1, k, u, h => by
    unfold runF
    split
    · exact good_run ct n (k + 1) (good_ins ct h)
    · exact h
theorem want_le (a : Int32) : wantF a ≤ 100 := by
  unfold wantF
  split
  · split
    · rename_i h1 h2
      obtain ⟨j, hj, e⟩ := nI_of2 (M := 100) (n := 100) (by decide) (Int32.not_lt.mpr h1) h2
      rw [e, nI_clamp (by omega)]
      exact hj
    · exact Nat.le_refl _
  · exact Nat.zero_le _
theorem want_mid {a : Int32} (h1 : 0 ≤ a) (h2 : a ≤ 100) : a = nI (wantF a) := by
  unfold wantF
  rw [if_pos h1, if_pos h2]
  obtain ⟨j, hj, e⟩ := nI_of2 (M := 100) (n := 100) (by decide) (Int32.not_lt.mpr h1) h2
  rw [e, nI_clamp (by omega)]
end
section
/-! MicroLc3: the methods that only read; rd_x: a call of x, a row -/
set_option maxHeartbeats 4000000 in
set_option maxRecDepth 100000 in
theorem met_has (l : Launch) (dC : Nat → ClassId) (dI : Nat → Nat → Nat) (h0 qc qm qr : Nat) (d : ClassId) (ct : Nat → Int32) (u : mc_S0) (a : Int32) (b : Int32) : Met l yX0_has (ws_ yX0_has cX0_has 3 (some .boolean)) ({ frames := 0, cells := 0, slots := 0, locals := 0 }) (va_Pc [.ref h0, .int a, .int b] (fun U => va_P (dC, dI) vwCl (mc_W0 h0 qc qm qr d ct u) U.heap ∧ va_K (dC, dI) vwCl [(d, .int)] U)) (vp_Si (fun r => r = hasF a b)) 0 0 (fun _ => False) := by
  refine Met.ofW (cc := cX0_has) (maxL := 3) (ret := (some .boolean)) (by decide) rfl ?_
  intro p e s m args below meth c s₁ B hml hv
  obtain ⟨rfl, hP, hK⟩ := hv
  have hx := B.exec
  have hb := B.bytes
  have hr := B.returns
  have hts := atoms_spec (ws := (ws_ yX0_has cX0_has 3 (some .boolean))) B.pre
  have hts : ∀ w ∈ lw_all, w.before _ s = true := fun w h => hts w (List.mem_cons_of_mem _ h)
  have hown : s.vm.findClass RX0 = some m.cls := findClass_of_methodNamed B.named
  have hlocks := B.notSynchronized
  have hP : va_P (dC, dI) vwCl (mc_W0 h0 qc qm qr d ct u) s.heap := hP
  have hl := lv_entry ([.ref h0, .int a, .int b]) (n := 3) (Nat.le_of_ble_eq_true rfl)
  rw [lg_entry_eq]
  generalize (lg_sl ([.ref h0, .int a, .int b]) ++ List.replicate (3 - (lg_sl ([.ref h0, .int a, .int b])).length) Slot.unset).toArray = ls at hl ⊢
  have hl : lv_has ls 3 [(0, .ref h0), (1, .int a), (2, .int b)] := hl
  refine lv_iload_n hx hb dX0_has_0 rfl (lv_at hl 1 rfl) ?_
  refine lv_iload_n hx hb dX0_has_1 rfl (lv_at hl 2 rfl) ?_
  refine lv_iand hx hb dX0_has_2 ?_
  refine lv_if_eq (tgt := 10) hx hb dX0_has_3 (by decide) (fun c_1 => ?_) (fun c_1 => ?_)
  · refine lv_iconst (v := 0) hx hb dX0_has_10 (by decide) ?_
    exact W.zret (v := 0) hx hb hr rfl (fun t ht hW => ⟨0, rfl, (by show 0 = hasF a b; unfold hasF; rw [if_pos c_1]), ht⟩) (fun q h => by cases h) dX0_has_11
  · refine lv_iconst (v := 1) hx hb dX0_has_6 (by decide) ?_
    refine lv_goto (tgt := 11) hx hb dX0_has_7 (by decide) ?_
    exact W.zret (v := 1) hx hb hr rfl (fun t ht hW => ⟨1, rfl, (by show 1 = hasF a b; unfold hasF; rw [if_neg c_1]), ht⟩) (fun q h => by cases h) dX0_has_11
theorem rd_has {p : Program} {l : Launch} {e : Env} {R : Room} {s : State} {m : MethodId} {args : Array Value} {below : List Frame} {meth : Method} {c : Code} {H : Heap} {locs : List Loc} {cells slots : Nat} {Q : State → Prop} {cc : ByteArray} {pc nL : Nat} {ls : Array Slot} {rest : List Value} {dC : Nat → ClassId} {dI : Nat → Nat → Nat} {h0 qc qm qr : Nat} {d : ClassId} {ct : Nat → Int32} {u : mc_S0} {a b : Int32} (S : CallFix p m c cc nL s args lw_all RX0) (hK : va_K (dC, dI) vwCl [(d, .int)] s) (hP : va_P (dC, dI) vwCl (mc_W0 h0 qc qm qr d ct u) H) (hR : 1 ≤ R.frames ∧ 22 ≤ R.locals) (hsz : ls.size = nL) (hrest : (rest.map fun v => v.category).sum ≤ 8) (hdg : decode cc pc = .ok (.invokevirtual 96, 3)) (hf : cells ≤ R.cells ∧ slots ≤ R.slots) (kk : W p l e R s m args below meth c H locs cells slots Q (F0 m (pc + 3) ls (.int (hasF a b) :: rest))) : W p l e R s m args below meth c H locs cells slots Q (F0 m pc ls (.int b :: .int a :: .ref h0 :: rest)) := by
  refine vp_callSi (W.runV (As := [.int a, .int b]) (rest := rest) S (met_has l dC dI h0 qc qm qr d ct u a b) (cwV 2 S.2.2.2.2 (lw_V q144 q146 qs6 q23 q147) rfl rfl rfl (by decide +kernel) hR) ⟨fun a U g mk q => ⟨q.1, q.2.1, va_K.moved (u := U) (U := U.calling g mk a) (Vm.Alike.refl U.vm) q.2.2⟩, va_recv hK hP (ci := 0) (q0 := 0) rfl rfl, fun U hU hW => ⟨rfl, by rw [hU]; exact hP, va_K.moved hW.alike hK⟩⟩ rfl rfl hsz rfl (lv_room hrest) hdg hf) (fun r hr => ?_)
  rw [hr]
  exact kk
set_option maxHeartbeats 4000000 in
set_option maxRecDepth 100000 in
theorem met_extended (l : Launch) (dC : Nat → ClassId) (dI : Nat → Nat → Nat) (h0 qc qm qr : Nat) (d : ClassId) (ct : Nat → Int32) (u : mc_S0) (a : Int32) (b : Int32) : Met l yX0_extended (ws_ yX0_extended cX0_extended 4 (some .int)) ({ frames := 0, cells := 0, slots := 0, locals := 0 }) (va_Pc [.ref h0, .int a, .int b] (fun U => va_P (dC, dI) vwCl (mc_W0 h0 qc qm qr d ct u) U.heap ∧ va_K (dC, dI) vwCl [(d, .int)] U)) (vp_Si (fun r => r = extF a b)) 0 0 (fun _ => False) := by
  refine Met.ofW (cc := cX0_extended) (maxL := 4) (ret := (some .int)) (by decide) rfl ?_
  intro p e s m args below meth c s₁ B hml hv
  obtain ⟨rfl, hP, hK⟩ := hv
  have hx := B.exec
  have hb := B.bytes
  have hr := B.returns
  have hts := atoms_spec (ws := (ws_ yX0_extended cX0_extended 4 (some .int))) B.pre
  have hts : ∀ w ∈ lw_all, w.before _ s = true := fun w h => hts w (List.mem_cons_of_mem _ h)
  have hown : s.vm.findClass RX0 = some m.cls := findClass_of_methodNamed B.named
  have hlocks := B.notSynchronized
  have hP : va_P (dC, dI) vwCl (mc_W0 h0 qc qm qr d ct u) s.heap := hP
  have hl := lv_entry ([.ref h0, .int a, .int b]) (n := 4) (Nat.le_of_ble_eq_true rfl)
  rw [lg_entry_eq]
  generalize (lg_sl ([.ref h0, .int a, .int b]) ++ List.replicate (4 - (lg_sl ([.ref h0, .int a, .int b])).length) Slot.unset).toArray = ls at hl ⊢
  have hl : lv_has ls 4 [(0, .ref h0), (1, .int a), (2, .int b)] := hl
  refine lv_iload_n hx hb dX0_extended_0 rfl (lv_at hl 1 rfl) ?_
  refine lv_iconst (v := 1) hx hb dX0_extended_1 (by decide) ?_
  refine lv_iload_n hx hb dX0_extended_2 rfl (lv_at hl 2 rfl) ?_
  refine lv_ishl hx hb dX0_extended_3 ?_
  refine lv_iconst (v := 1) hx hb dX0_extended_4 (by decide) ?_
  refine lv_isub hx hb dX0_extended_5 ?_
  refine lv_iand hx hb dX0_extended_6 ?_
  refine lv_istore_n (lv' := [(3, .int (a &&& (((1 : Int32) <<< (b &&& 31)) - 1))), (0, .ref h0), (1, .int a), (2, .int b)]) hx hb dX0_extended_7 rfl hl (by decide) rfl (fun ls hl => ?_)
  refine lv_iload_n hx hb dX0_extended_8 rfl (lv_at hl 0 rfl) ?_
  refine lv_iload_n hx hb dX0_extended_9 rfl (lv_at hl 3 rfl) ?_
  refine lv_iconst (v := 1) hx hb dX0_extended_10 (by decide) ?_
  refine lv_isub hx hb dX0_extended_11 ?_
  refine lv_ishr hx hb dX0_extended_12 ?_
  refine lv_iconst (v := 1) hx hb dX0_extended_13 (by decide) ?_
  refine lv_iand hx hb dX0_extended_14 ?_
  refine lv_if_ne (tgt := 22) hx hb dX0_extended_15 (by decide) (fun c_1 => ?_) (fun c_1 => ?_)
  · refine lv_iload_n hx hb dX0_extended_22 rfl (lv_at hl 0 rfl) ?_
    refine lv_ldc (v := 65535) hx hb hown (hts _ q114) dX0_extended_23 ?_
    refine lv_iconst (v := 1) hx hb dX0_extended_25 (by decide) ?_
    refine lv_iload_n hx hb dX0_extended_26 rfl (lv_at hl 3 rfl) ?_
    refine lv_ishl hx hb dX0_extended_27 ?_
    refine lv_iconst (v := 1) hx hb dX0_extended_28 (by decide) ?_
    refine lv_isub hx hb dX0_extended_29 ?_
    refine lv_iconst (v := (-1)) hx hb dX0_extended_30 (by decide) ?_
    refine lv_ixor hx hb dX0_extended_31 ?_
    refine lv_iand hx hb dX0_extended_32 ?_
    refine lv_ior hx hb dX0_extended_33 ?_
    exact W.iret (v := (a &&& (((1 : Int32) <<< (b &&& 31)) - 1)) ||| (65535 &&& ((((1 : Int32) <<< (b &&& 31)) - 1) ^^^ (-1)))) hx hb hr (fun t ht hW => ⟨(a &&& (((1 : Int32) <<< (b &&& 31)) - 1)) ||| (65535 &&& ((((1 : Int32) <<< (b &&& 31)) - 1) ^^^ (-1))), rfl, (by show (a &&& (((1 : Int32) <<< (b &&& 31)) - 1)) ||| (65535 &&& ((((1 : Int32) <<< (b &&& 31)) - 1) ^^^ (-1))) = extF a b; unfold extF; rw [if_neg c_1]), ht⟩) (fun q h => by cases h) dX0_extended_34
  · refine lv_iload_n hx hb dX0_extended_18 rfl (lv_at hl 0 rfl) ?_
    refine lv_goto (tgt := 34) hx hb dX0_extended_19 (by decide) ?_
    exact W.iret (v := a &&& (((1 : Int32) <<< (b &&& 31)) - 1)) hx hb hr (fun t ht hW => ⟨a &&& (((1 : Int32) <<< (b &&& 31)) - 1), rfl, (by show a &&& (((1 : Int32) <<< (b &&& 31)) - 1) = extF a b; unfold extF; rw [if_pos c_1]), ht⟩) (fun q h => by cases h) dX0_extended_34
theorem rd_extended {p : Program} {l : Launch} {e : Env} {R : Room} {s : State} {m : MethodId} {args : Array Value} {below : List Frame} {meth : Method} {c : Code} {H : Heap} {locs : List Loc} {cells slots : Nat} {Q : State → Prop} {cc : ByteArray} {pc nL : Nat} {ls : Array Slot} {rest : List Value} {dC : Nat → ClassId} {dI : Nat → Nat → Nat} {h0 qc qm qr : Nat} {d : ClassId} {ct : Nat → Int32} {u : mc_S0} {a b : Int32} (S : CallFix p m c cc nL s args lw_all RX0) (hK : va_K (dC, dI) vwCl [(d, .int)] s) (hP : va_P (dC, dI) vwCl (mc_W0 h0 qc qm qr d ct u) H) (hR : 1 ≤ R.frames ∧ 23 ≤ R.locals) (hsz : ls.size = nL) (hrest : (rest.map fun v => v.category).sum ≤ 8) (hdg : decode cc pc = .ok (.invokevirtual 118, 3)) (hf : cells ≤ R.cells ∧ slots ≤ R.slots) (kk : W p l e R s m args below meth c H locs cells slots Q (F0 m (pc + 3) ls (.int (extF a b) :: rest))) : W p l e R s m args below meth c H locs cells slots Q (F0 m pc ls (.int b :: .int a :: .ref h0 :: rest)) := by
  refine vp_callSi (W.runV (As := [.int a, .int b]) (rest := rest) S (met_extended l dC dI h0 qc qm qr d ct u a b) (cwV 2 S.2.2.2.2 (lw_V q155 q157 qs8 q23 q158) rfl rfl rfl (by decide +kernel) hR) ⟨fun a U g mk q => ⟨q.1, q.2.1, va_K.moved (u := U) (U := U.calling g mk a) (Vm.Alike.refl U.vm) q.2.2⟩, va_recv hK hP (ci := 0) (q0 := 0) rfl rfl, fun U hU hW => ⟨rfl, by rw [hU]; exact hP, va_K.moved hW.alike hK⟩⟩ rfl rfl hsz rfl (lv_room hrest) hdg hf) (fun r hr => ?_)
  rw [hr]
  exact kk
set_option maxHeartbeats 4000000 in
set_option maxRecDepth 100000 in
theorem met_nextState (l : Launch) (dC : Nat → ClassId) (dI : Nat → Nat → Nat) (h0 qc qm qr : Nat) (d : ClassId) (ct : Nat → Int32) (u : mc_S0) (g : Int32) : Met l yX0_nextState (ws_ yX0_nextState cX0_nextState 4 (some .int)) ({ frames := 0, cells := 0, slots := 0, locals := 0 }) (va_Pc [.ref h0, .int g] (fun U => va_P (dC, dI) vwCl (mc_W0 h0 qc qm qr d ct u) U.heap ∧ va_K (dC, dI) vwCl [(d, .int)] U)) (vp_Si (fun r => r = nextF g u)) 0 0 (fun _ => False) := by
  refine Met.ofW (cc := cX0_nextState) (maxL := 4) (ret := (some .int)) (by decide) rfl ?_
  intro p e s m args below meth c s₁ B hml hv
  obtain ⟨rfl, hP, hK⟩ := hv
  have hx := B.exec
  have hb := B.bytes
  have hr := B.returns
  have hts := atoms_spec (ws := (ws_ yX0_nextState cX0_nextState 4 (some .int))) B.pre
  have hts : ∀ w ∈ lw_all, w.before _ s = true := fun w h => hts w (List.mem_cons_of_mem _ h)
  have hown : s.vm.findClass RX0 = some m.cls := findClass_of_methodNamed B.named
  have hlocks := B.notSynchronized
  have hP : va_P (dC, dI) vwCl (mc_W0 h0 qc qm qr d ct u) s.heap := hP
  have hl := lv_entry ([.ref h0, .int g]) (n := 4) (Nat.le_of_ble_eq_true rfl)
  rw [lg_entry_eq]
  generalize (lg_sl ([.ref h0, .int g]) ++ List.replicate (4 - (lg_sl ([.ref h0, .int g])).length) Slot.unset).toArray = ls at hl ⊢
  have hl : lv_has ls 4 [(0, .ref h0), (1, .int g)] := hl
  refine lv_iload_n hx hb dX0_nextState_0 rfl (lv_at hl 1 rfl) ?_
  refine lv_bipush (v := 63) hx hb dX0_nextState_1 (by decide) ?_
  refine lv_iand hx hb dX0_nextState_3 ?_
  refine lv_istore_n (lv' := [(2, .int (g &&& 63)), (0, .ref h0), (1, .int g)]) hx hb dX0_nextState_4 rfl hl (by decide) rfl (fun ls hl => ?_)
  refine lv_iload_n hx hb dX0_nextState_5 rfl (lv_at hl 2 rfl) ?_
  refine lv_sipush (v := 192) hx hb dX0_nextState_6 (by decide) ?_
  refine lv_iand hx hb dX0_nextState_9 ?_
  refine lv_istore_n (lv' := [(3, .int (g &&& 192)), (2, .int (g &&& 63)), (0, .ref h0), (1, .int g)]) hx hb dX0_nextState_10 rfl hl (by decide) rfl (fun ls hl => ?_)
  refine lv_iload_n hx hb dX0_nextState_11 rfl (lv_at hl 0 rfl) ?_
  refine lv_bipush (v := 64) hx hb dX0_nextState_12 (by decide) ?_
  refine lv_icmp_ne (tgt := 25) hx hb dX0_nextState_14 (by decide) (fun c_1 => ?_) (fun c_1 => ?_)
  · refine lv_iload_n hx hb dX0_nextState_25 rfl (lv_at hl 0 rfl) ?_
    refine lv_sipush (v := 128) hx hb dX0_nextState_26 (by decide) ?_
    refine lv_icmp_ne (tgt := 55) hx hb dX0_nextState_29 (by decide) (fun c_2 => ?_) (fun c_2 => ?_)
    · refine lv_iload_n hx hb dX0_nextState_55 rfl (lv_at hl 0 rfl) ?_
      refine lv_sipush (v := 192) hx hb dX0_nextState_56 (by decide) ?_
      refine lv_icmp_ne (tgt := 74) hx hb dX0_nextState_59 (by decide) (fun c_3 => ?_) (fun c_3 => ?_)
      · refine lv_iload_n hx hb dX0_nextState_74 rfl (lv_at hl 1 rfl) ?_
        exact W.iret (v := g &&& 63) hx hb hr (fun t ht hW => ⟨g &&& 63, rfl, (by show g &&& 63 = nextF g u; unfold nextF; rw [if_neg c_1, if_neg c_2, if_neg c_3]), ht⟩) (fun q h => by cases h) dX0_nextState_75
      · refine lv_iload_n hx hb dX0_nextState_62 rfl (lv_at hl 1 rfl) ?_
        refine lv_aload_n hx hb dX0_nextState_63 rfl (lv_at hl 2 rfl) ?_
        refine va_get (D := (dC, dI)) (ci := 0) (v := .int (s_ir u)) (C := RX0) (T := TX0) (N := 11) hx hb hts in_X0 hown hK hP 0 rfl rfl 10 (by decide) (hts _ q85) (fun _ h9 => h9) rfl dX0_nextState_64 ?_
        refine lv_bipush (v := 11) hx hb dX0_nextState_67 (by decide) ?_
        refine lv_ishr hx hb dX0_nextState_69 ?_
        refine lv_iconst (v := 1) hx hb dX0_nextState_70 (by decide) ?_
        refine lv_iand hx hb dX0_nextState_71 ?_
        refine lv_ior hx hb dX0_nextState_72 ?_
        exact W.iret (v := (g &&& 63) ||| (((s_ir u) >>> ((11 : Int32) &&& 31)) &&& 1)) hx hb hr (fun t ht hW => ⟨(g &&& 63) ||| (((s_ir u) >>> ((11 : Int32) &&& 31)) &&& 1), rfl, (by show (g &&& 63) ||| (((s_ir u) >>> ((11 : Int32) &&& 31)) &&& 1) = nextF g u; unfold nextF; rw [if_neg c_1, if_neg c_2, if_pos c_3]), ht⟩) (fun q h => by cases h) dX0_nextState_73
    · refine lv_aload_n hx hb dX0_nextState_32 rfl (lv_at hl 2 rfl) ?_
      refine va_get (D := (dC, dI)) (ci := 0) (v := .int (s_ir u)) (C := RX0) (T := TX0) (N := 11) hx hb hts in_X0 hown hK hP 0 rfl rfl 10 (by decide) (hts _ q85) (fun _ h9 => h9) rfl dX0_nextState_33 ?_
      refine lv_bipush (v := 9) hx hb dX0_nextState_36 (by decide) ?_
      refine lv_ishr hx hb dX0_nextState_38 ?_
      refine lv_aload_n hx hb dX0_nextState_39 rfl (lv_at hl 2 rfl) ?_
      refine va_get (D := (dC, dI)) (ci := 0) (v := .int (s_sg u)) (C := RX0) (T := TX0) (N := 11) hx hb hts in_X0 hown hK hP 0 rfl rfl 4 (by decide) (hts _ q79) (fun _ h9 => h9) rfl dX0_nextState_40 ?_
      refine lv_iand hx hb dX0_nextState_43 ?_
      refine lv_if_eq (tgt := 53) hx hb dX0_nextState_44 (by decide) (fun c_4 => ?_) (fun c_4 => ?_)
      · refine lv_iload_n hx hb dX0_nextState_53 rfl (lv_at hl 1 rfl) ?_
        exact W.iret (v := g &&& 63) hx hb hr (fun t ht hW => ⟨g &&& 63, rfl, (by show g &&& 63 = nextF g u; unfold nextF; rw [if_neg c_1, if_pos c_2, if_pos c_4]), ht⟩) (fun q h => by cases h) dX0_nextState_54
      · refine lv_iload_n hx hb dX0_nextState_47 rfl (lv_at hl 1 rfl) ?_
        refine lv_iconst (v := 4) hx hb dX0_nextState_48 (by decide) ?_
        refine lv_ior hx hb dX0_nextState_49 ?_
        refine lv_goto (tgt := 54) hx hb dX0_nextState_50 (by decide) ?_
        exact W.iret (v := (g &&& 63) ||| 4) hx hb hr (fun t ht hW => ⟨(g &&& 63) ||| 4, rfl, (by show (g &&& 63) ||| 4 = nextF g u; unfold nextF; rw [if_neg c_1, if_pos c_2, if_neg c_4]), ht⟩) (fun q h => by cases h) dX0_nextState_54
  · refine lv_aload_n hx hb dX0_nextState_17 rfl (lv_at hl 2 rfl) ?_
    refine va_get (D := (dC, dI)) (ci := 0) (v := .int (s_ir u)) (C := RX0) (T := TX0) (N := 11) hx hb hts in_X0 hown hK hP 0 rfl rfl 10 (by decide) (hts _ q85) (fun _ h9 => h9) rfl dX0_nextState_18 ?_
    refine lv_bipush (v := 12) hx hb dX0_nextState_21 (by decide) ?_
    refine lv_ishr hx hb dX0_nextState_23 ?_
    exact W.iret (v := (s_ir u) >>> ((12 : Int32) &&& 31)) hx hb hr (fun t ht hW => ⟨(s_ir u) >>> ((12 : Int32) &&& 31), rfl, (by show (s_ir u) >>> ((12 : Int32) &&& 31) = nextF g u; unfold nextF; rw [if_pos c_1]), ht⟩) (fun q h => by cases h) dX0_nextState_24
theorem rd_nextState {p : Program} {l : Launch} {e : Env} {R : Room} {s : State} {m : MethodId} {args : Array Value} {below : List Frame} {meth : Method} {c : Code} {H : Heap} {locs : List Loc} {cells slots : Nat} {Q : State → Prop} {cc : ByteArray} {pc nL : Nat} {ls : Array Slot} {rest : List Value} {dC : Nat → ClassId} {dI : Nat → Nat → Nat} {h0 qc qm qr : Nat} {d : ClassId} {ct : Nat → Int32} {u : mc_S0} {g : Int32} (S : CallFix p m c cc nL s args lw_all RX0) (hK : va_K (dC, dI) vwCl [(d, .int)] s) (hP : va_P (dC, dI) vwCl (mc_W0 h0 qc qm qr d ct u) H) (hR : 1 ≤ R.frames ∧ 23 ≤ R.locals) (hsz : ls.size = nL) (hrest : (rest.map fun v => v.category).sum ≤ 8) (hdg : decode cc pc = .ok (.invokevirtual 92, 3)) (hf : cells ≤ R.cells ∧ slots ≤ R.slots) (kk : W p l e R s m args below meth c H locs cells slots Q (F0 m (pc + 3) ls (.int (nextF g u) :: rest))) : W p l e R s m args below meth c H locs cells slots Q (F0 m pc ls (.int g :: .ref h0 :: rest)) := by
  refine vp_callSi (W.runV (As := [.int g]) (rest := rest) S (met_nextState l dC dI h0 qc qm qr d ct u g) (cwV 1 S.2.2.2.2 (lw_V q182 q184 qs12 q23 q185) rfl rfl rfl (by decide +kernel) hR) ⟨fun a U g mk q => ⟨q.1, q.2.1, va_K.moved (u := U) (U := U.calling g mk a) (Vm.Alike.refl U.vm) q.2.2⟩, va_recv hK hP (ci := 0) (q0 := 0) rfl rfl, fun U hU hW => ⟨rfl, by rw [hU]; exact hP, va_K.moved hW.alike hK⟩⟩ rfl rfl hsz rfl (lv_room hrest) hdg hf) (fun r hr => ?_)
  rw [hr]
  exact kk
set_option maxHeartbeats 4000000 in
set_option maxRecDepth 100000 in
theorem met_pcInput (l : Launch) (dC : Nat → ClassId) (dI : Nat → Nat → Nat) (h0 qc qm qr : Nat) (d : ClassId) (ct : Nat → Int32) (u : mc_S0) (g : Int32) (b : Int32) (a : Int32) : Met l yX0_pcInput (ws_ yX0_pcInput cX0_pcInput 5 (some .int)) ({ frames := 0, cells := 0, slots := 0, locals := 0 }) (va_Pc [.ref h0, .int g, .int b, .int a] (fun U => va_P (dC, dI) vwCl (mc_W0 h0 qc qm qr d ct u) U.heap ∧ va_K (dC, dI) vwCl [(d, .int)] U)) (vp_Si (fun r => r = pciF g b a u)) 0 0 (fun _ => False) := by
  refine Met.ofW (cc := cX0_pcInput) (maxL := 5) (ret := (some .int)) (by decide) rfl ?_
  intro p e s m args below meth c s₁ B hml hv
  obtain ⟨rfl, hP, hK⟩ := hv
  have hx := B.exec
  have hb := B.bytes
  have hr := B.returns
  have hts := atoms_spec (ws := (ws_ yX0_pcInput cX0_pcInput 5 (some .int))) B.pre
  have hts : ∀ w ∈ lw_all, w.before _ s = true := fun w h => hts w (List.mem_cons_of_mem _ h)
  have hown : s.vm.findClass RX0 = some m.cls := findClass_of_methodNamed B.named
  have hlocks := B.notSynchronized
  have hP : va_P (dC, dI) vwCl (mc_W0 h0 qc qm qr d ct u) s.heap := hP
  have hl := lv_entry ([.ref h0, .int g, .int b, .int a]) (n := 5) (Nat.le_of_ble_eq_true rfl)
  rw [lg_entry_eq]
  generalize (lg_sl ([.ref h0, .int g, .int b, .int a]) ++ List.replicate (5 - (lg_sl ([.ref h0, .int g, .int b, .int a])).length) Slot.unset).toArray = ls at hl ⊢
  have hl : lv_has ls 5 [(0, .ref h0), (1, .int g), (2, .int b), (3, .int a)] := hl
  refine lv_iload_n hx hb dX0_pcInput_0 rfl (lv_at hl 1 rfl) ?_
  refine lv_ldc (v := 393216) hx hb hown (hts _ q179) dX0_pcInput_1 ?_
  refine lv_iand hx hb dX0_pcInput_3 ?_
  refine lv_istore (lv' := [(4, .int (g &&& 393216)), (0, .ref h0), (1, .int g), (2, .int b), (3, .int a)]) hx hb dX0_pcInput_4 hl (by decide) rfl (fun ls hl => ?_)
  refine lv_iload hx hb dX0_pcInput_6 (lv_at hl 0 rfl) ?_
  refine lv_ldc (v := 131072) hx hb hown (hts _ q180) dX0_pcInput_8 ?_
  refine lv_icmp_ne (tgt := 15) hx hb dX0_pcInput_10 (by decide) (fun c_1 => ?_) (fun c_1 => ?_)
  · refine lv_iload hx hb dX0_pcInput_15 (lv_at hl 0 rfl) ?_
    refine lv_ldc (v := 262144) hx hb hown (hts _ q181) dX0_pcInput_17 ?_
    refine lv_icmp_ne (tgt := 26) hx hb dX0_pcInput_19 (by decide) (fun c_2 => ?_) (fun c_2 => ?_)
    · refine lv_aload_n hx hb dX0_pcInput_26 rfl (lv_at hl 1 rfl) ?_
      refine va_get (D := (dC, dI)) (ci := 0) (v := .int (s_pc u)) (C := RX0) (T := TX0) (N := 11) hx hb hts in_X0 hown hK hP 0 rfl rfl 3 (by decide) (hts _ q78) (fun _ h9 => h9) rfl dX0_pcInput_27 ?_
      refine lv_iconst (v := 1) hx hb dX0_pcInput_30 (by decide) ?_
      refine lv_iadd hx hb dX0_pcInput_31 ?_
      refine lv_ldc (v := 65535) hx hb hown (hts _ q114) dX0_pcInput_32 ?_
      refine lv_iand hx hb dX0_pcInput_34 ?_
      exact W.iret (v := ((s_pc u) + 1) &&& 65535) hx hb hr (fun t ht hW => ⟨((s_pc u) + 1) &&& 65535, rfl, (by show ((s_pc u) + 1) &&& 65535 = pciF g b a u; unfold pciF; rw [if_neg c_1, if_neg c_2]), ht⟩) (fun q h => by cases h) dX0_pcInput_35
    · refine lv_iload_n hx hb dX0_pcInput_22 rfl (lv_at hl 4 rfl) ?_
      refine lv_goto (tgt := 35) hx hb dX0_pcInput_23 (by decide) ?_
      exact W.iret (v := a) hx hb hr (fun t ht hW => ⟨a, rfl, (by show a = pciF g b a u; unfold pciF; rw [if_neg c_1, if_pos c_2]), ht⟩) (fun q h => by cases h) dX0_pcInput_35
  · refine lv_iload_n hx hb dX0_pcInput_13 rfl (lv_at hl 3 rfl) ?_
    exact W.iret (v := b) hx hb hr (fun t ht hW => ⟨b, rfl, (by show b = pciF g b a u; unfold pciF; rw [if_pos c_1]), ht⟩) (fun q h => by cases h) dX0_pcInput_14
theorem rd_pcInput {p : Program} {l : Launch} {e : Env} {R : Room} {s : State} {m : MethodId} {args : Array Value} {below : List Frame} {meth : Method} {c : Code} {H : Heap} {locs : List Loc} {cells slots : Nat} {Q : State → Prop} {cc : ByteArray} {pc nL : Nat} {ls : Array Slot} {rest : List Value} {dC : Nat → ClassId} {dI : Nat → Nat → Nat} {h0 qc qm qr : Nat} {d : ClassId} {ct : Nat → Int32} {u : mc_S0} {g b a : Int32} (S : CallFix p m c cc nL s args lw_all RX0) (hK : va_K (dC, dI) vwCl [(d, .int)] s) (hP : va_P (dC, dI) vwCl (mc_W0 h0 qc qm qr d ct u) H) (hR : 1 ≤ R.frames ∧ 24 ≤ R.locals) (hsz : ls.size = nL) (hrest : (rest.map fun v => v.category).sum ≤ 8) (hdg : decode cc pc = .ok (.invokevirtual 88, 3)) (hf : cells ≤ R.cells ∧ slots ≤ R.slots) (kk : W p l e R s m args below meth c H locs cells slots Q (F0 m (pc + 3) ls (.int (pciF g b a u) :: rest))) : W p l e R s m args below meth c H locs cells slots Q (F0 m pc ls (.int a :: .int b :: .int g :: .ref h0 :: rest)) := by
  refine vp_callSi (W.runV (As := [.int g, .int b, .int a]) (rest := rest) S (met_pcInput l dC dI h0 qc qm qr d ct u g b a) (cwV 3 S.2.2.2.2 (lw_V q175 q177 qs11 q23 q178) rfl rfl rfl (by decide +kernel) hR) ⟨fun a U g mk q => ⟨q.1, q.2.1, va_K.moved (u := U) (U := U.calling g mk a) (Vm.Alike.refl U.vm) q.2.2⟩, va_recv hK hP (ci := 0) (q0 := 0) rfl rfl, fun U hU hW => ⟨rfl, by rw [hU]; exact hP, va_K.moved hW.alike hK⟩⟩ rfl rfl hsz rfl (lv_room hrest) hdg hf) (fun r hr => ?_)
  rw [hr]
  exact kk
set_option maxHeartbeats 4000000 in
set_option maxRecDepth 100000 in
theorem met_firstSource (l : Launch) (dC : Nat → ClassId) (dI : Nat → Nat → Nat) (h0 qc qm qr : Nat) (d : ClassId) (ct : Nat → Int32) (u : mc_S0) (g : Int32) : Met l yX0_firstSource (ws_ yX0_firstSource cX0_firstSource 2 (some .int)) ({ frames := 1, cells := 0, slots := 0, locals := 22 }) (va_Pc [.ref h0, .int g] (fun U => va_P (dC, dI) vwCl (mc_W0 h0 qc qm qr d ct u) U.heap ∧ va_K (dC, dI) vwCl [(d, .int)] U)) (vp_Si (fun r => r = srcF g u)) 0 0 (fun _ => False) := by
  refine Met.ofW (cc := cX0_firstSource) (maxL := 2) (ret := (some .int)) (by decide) rfl ?_
  intro p e s m args below meth c s₁ B hml hv
  obtain ⟨rfl, hP, hK⟩ := hv
  have hx := B.exec
  have hb := B.bytes
  have hr := B.returns
  have hts := atoms_spec (ws := (ws_ yX0_firstSource cX0_firstSource 2 (some .int))) B.pre
  have hts : ∀ w ∈ lw_all, w.before _ s = true := fun w h => hts w (List.mem_cons_of_mem _ h)
  have hown : s.vm.findClass RX0 = some m.cls := findClass_of_methodNamed B.named
  have hlocks := B.notSynchronized
  have hP : va_P (dC, dI) vwCl (mc_W0 h0 qc qm qr d ct u) s.heap := hP
  have hl := lv_entry ([.ref h0, .int g]) (n := 2) (Nat.le_of_ble_eq_true rfl)
  rw [lg_entry_eq]
  generalize (lg_sl ([.ref h0, .int g]) ++ List.replicate (2 - (lg_sl ([.ref h0, .int g])).length) Slot.unset).toArray = ls at hl ⊢
  have hl : lv_has ls 2 [(0, .ref h0), (1, .int g)] := hl
  refine lv_aload_n hx hb dX0_firstSource_0 rfl (lv_at hl 0 rfl) ?_
  refine va_get (D := (dC, dI)) (ci := 0) (v := .ref qr) (C := RX0) (T := TX0) (N := 11) hx hb hts in_X0 hown hK hP 0 rfl rfl 2 (by decide) (hts _ q77) (fun _ h9 => h9) rfl dX0_firstSource_1 ?_
  refine lv_aload_n hx hb dX0_firstSource_4 rfl (lv_at hl 0 rfl) ?_
  refine lv_iload_n hx hb dX0_firstSource_5 rfl (lv_at hl 1 rfl) ?_
  refine lv_ldc (v := 1048576) hx hb hown (hts _ q152) dX0_firstSource_6 ?_
  refine rd_has ⟨hx, hb, hml, hown, hts⟩ hK hP ⟨Nat.le_of_ble_eq_true rfl, Nat.le_of_ble_eq_true rfl⟩ hl.1 (Nat.le_of_ble_eq_true rfl) dX0_firstSource_8 ⟨Nat.zero_le _, Nat.zero_le _⟩ ?_
  refine lv_if_eq (tgt := 27) hx hb dX0_firstSource_11 (by decide) (fun c_1 => ?_) (fun c_1 => ?_)
  · refine lv_aload_n hx hb dX0_firstSource_27 rfl (lv_at hl 0 rfl) ?_
    refine va_get (D := (dC, dI)) (ci := 0) (v := .int (s_ir u)) (C := RX0) (T := TX0) (N := 11) hx hb hts in_X0 hown hK hP 0 rfl rfl 10 (by decide) (hts _ q85) (fun _ h9 => h9) rfl dX0_firstSource_28 ?_
    refine lv_bipush (v := 6) hx hb dX0_firstSource_31 (by decide) ?_
    refine lv_ishr hx hb dX0_firstSource_33 ?_
    refine lv_bipush (v := 7) hx hb dX0_firstSource_34 (by decide) ?_
    refine lv_iand hx hb dX0_firstSource_36 ?_
    refine va_iald hx hb hK hP 3 0 rfl rfl (in7 _) dX0_firstSource_37 ?_
    exact W.iret (v := s_rr u (((s_ir u) >>> ((6 : Int32) &&& 31)) &&& 7).toNatClampNeg) hx hb hr (fun t ht hW => ⟨s_rr u (((s_ir u) >>> ((6 : Int32) &&& 31)) &&& 7).toNatClampNeg, rfl, (by show s_rr u (((s_ir u) >>> ((6 : Int32) &&& 31)) &&& 7).toNatClampNeg = srcF g u; unfold srcF; rw [if_pos c_1]), ht⟩) (fun q h => by cases h) dX0_firstSource_38
  · refine lv_aload_n hx hb dX0_firstSource_14 rfl (lv_at hl 0 rfl) ?_
    refine va_get (D := (dC, dI)) (ci := 0) (v := .int (s_ir u)) (C := RX0) (T := TX0) (N := 11) hx hb hts in_X0 hown hK hP 0 rfl rfl 10 (by decide) (hts _ q85) (fun _ h9 => h9) rfl dX0_firstSource_15 ?_
    refine lv_bipush (v := 9) hx hb dX0_firstSource_18 (by decide) ?_
    refine lv_ishr hx hb dX0_firstSource_20 ?_
    refine lv_bipush (v := 7) hx hb dX0_firstSource_21 (by decide) ?_
    refine lv_iand hx hb dX0_firstSource_23 ?_
    refine lv_goto (tgt := 37) hx hb dX0_firstSource_24 (by decide) ?_
    refine va_iald hx hb hK hP 3 0 rfl rfl (in7 _) dX0_firstSource_37 ?_
    exact W.iret (v := s_rr u (((s_ir u) >>> ((9 : Int32) &&& 31)) &&& 7).toNatClampNeg) hx hb hr (fun t ht hW => ⟨s_rr u (((s_ir u) >>> ((9 : Int32) &&& 31)) &&& 7).toNatClampNeg, rfl, (by show s_rr u (((s_ir u) >>> ((9 : Int32) &&& 31)) &&& 7).toNatClampNeg = srcF g u; unfold srcF; rw [if_neg c_1]), ht⟩) (fun q h => by cases h) dX0_firstSource_38
theorem rd_firstSource {p : Program} {l : Launch} {e : Env} {R : Room} {s : State} {m : MethodId} {args : Array Value} {below : List Frame} {meth : Method} {c : Code} {H : Heap} {locs : List Loc} {cells slots : Nat} {Q : State → Prop} {cc : ByteArray} {pc nL : Nat} {ls : Array Slot} {rest : List Value} {dC : Nat → ClassId} {dI : Nat → Nat → Nat} {h0 qc qm qr : Nat} {d : ClassId} {ct : Nat → Int32} {u : mc_S0} {g : Int32} (S : CallFix p m c cc nL s args lw_all RX0) (hK : va_K (dC, dI) vwCl [(d, .int)] s) (hP : va_P (dC, dI) vwCl (mc_W0 h0 qc qm qr d ct u) H) (hR : 2 ≤ R.frames ∧ 43 ≤ R.locals) (hsz : ls.size = nL) (hrest : (rest.map fun v => v.category).sum ≤ 8) (hdg : decode cc pc = .ok (.invokevirtual 113, 3)) (hf : cells ≤ R.cells ∧ slots ≤ R.slots) (kk : W p l e R s m args below meth c H locs cells slots Q (F0 m (pc + 3) ls (.int (srcF g u) :: rest))) : W p l e R s m args below meth c H locs cells slots Q (F0 m pc ls (.int g :: .ref h0 :: rest)) := by
  refine vp_callSi (W.runV (As := [.int g]) (rest := rest) S (met_firstSource l dC dI h0 qc qm qr d ct u g) (cwV 1 S.2.2.2.2 (lw_V q148 q150 qs7 q23 q151) rfl rfl rfl (by decide +kernel) hR) ⟨fun a U g mk q => ⟨q.1, q.2.1, va_K.moved (u := U) (U := U.calling g mk a) (Vm.Alike.refl U.vm) q.2.2⟩, va_recv hK hP (ci := 0) (q0 := 0) rfl rfl, fun U hU hW => ⟨rfl, by rw [hU]; exact hP, va_K.moved hW.alike hK⟩⟩ rfl rfl hsz rfl (lv_room hrest) hdg hf) (fun r hr => ?_)
  rw [hr]
  exact kk
end
section
/-! MicroLc3: adder, ALU, bus -/
set_option maxHeartbeats 4000000 in
set_option maxRecDepth 100000 in
theorem met_adderOutput (l : Launch) (dC : Nat → ClassId) (dI : Nat → Nat → Nat) (h0 qc qm qr : Nat) (d : ClassId) (ct : Nat → Int32) (u : mc_S0) (g : Int32) : Met l yX0_adderOutput (ws_ yX0_adderOutput cX0_adderOutput 5 (some .int)) ({ frames := 2, cells := 0, slots := 0, locals := 43 }) (va_Pc [.ref h0, .int g] (fun U => va_P (dC, dI) vwCl (mc_W0 h0 qc qm qr d ct u) U.heap ∧ va_K (dC, dI) vwCl [(d, .int)] U)) (vp_Si (fun r => r = addF g u)) 0 0 (fun _ => False) := by
  refine Met.ofW (cc := cX0_adderOutput) (maxL := 5) (ret := (some .int)) (by decide) rfl ?_
  intro p e s m args below meth c s₁ B hml hv
  obtain ⟨rfl, hP, hK⟩ := hv
  have hx := B.exec
  have hb := B.bytes
  have hr := B.returns
  have hts := atoms_spec (ws := (ws_ yX0_adderOutput cX0_adderOutput 5 (some .int))) B.pre
  have hts : ∀ w ∈ lw_all, w.before _ s = true := fun w h => hts w (List.mem_cons_of_mem _ h)
  have hown : s.vm.findClass RX0 = some m.cls := findClass_of_methodNamed B.named
  have hlocks := B.notSynchronized
  have hP : va_P (dC, dI) vwCl (mc_W0 h0 qc qm qr d ct u) s.heap := hP
  have hl := lv_entry ([.ref h0, .int g]) (n := 5) (Nat.le_of_ble_eq_true rfl)
  rw [lg_entry_eq]
  generalize (lg_sl ([.ref h0, .int g]) ++ List.replicate (5 - (lg_sl ([.ref h0, .int g])).length) Slot.unset).toArray = ls at hl ⊢
  have hl : lv_has ls 5 [(0, .ref h0), (1, .int g)] := hl
  have j85 : ∀ ls : Array Slot, lv_has ls 5 [(4, .int (of3F g u)), (3, .int (g &&& 12582912)), (2, .int (baseF g u)), (0, .ref h0), (1, .int g)] → W p l e (headSpec (ws_ yX0_adderOutput cX0_adderOutput 5 (some .int)) ({ frames := 2, cells := 0, slots := 0, locals := 43 })).room s m ([.ref h0, .int g]).toArray below meth c s.heap [] 0 0 (MQ below (vp_Si (fun r => r = addF g u)) ([.ref h0, .int g]).toArray s 0 0 (fun _ => False)) (F0 m 85 ls []) := by
    intro ls hl
    refine lv_iload_n hx hb dX0_adderOutput_85 rfl (lv_at hl 2 rfl) ?_
    refine lv_iload hx hb dX0_adderOutput_86 (lv_at hl 0 rfl) ?_
    refine lv_iadd hx hb dX0_adderOutput_88 ?_
    refine lv_ldc (v := 65535) hx hb hown (hts _ q114) dX0_adderOutput_89 ?_
    refine lv_iand hx hb dX0_adderOutput_91 ?_
    exact W.iret (v := ((baseF g u) + (of3F g u)) &&& 65535) hx hb hr (fun t ht hW => ⟨((baseF g u) + (of3F g u)) &&& 65535, rfl, rfl, ht⟩) (fun q h => by cases h) dX0_adderOutput_92
  have j67 : ∀ ls : Array Slot, lv_has ls 5 [(4, .int (of2F g u)), (3, .int (g &&& 12582912)), (2, .int (baseF g u)), (0, .ref h0), (1, .int g)] → W p l e (headSpec (ws_ yX0_adderOutput cX0_adderOutput 5 (some .int)) ({ frames := 2, cells := 0, slots := 0, locals := 43 })).room s m ([.ref h0, .int g]).toArray below meth c s.heap [] 0 0 (MQ below (vp_Si (fun r => r = addF g u)) ([.ref h0, .int g]).toArray s 0 0 (fun _ => False)) (F0 m 67 ls []) := by
    intro ls hl
    refine lv_iload_n hx hb dX0_adderOutput_67 rfl (lv_at hl 1 rfl) ?_
    refine lv_ldc (v := 12582912) hx hb hown (hts _ q153) dX0_adderOutput_68 ?_
    refine lv_icmp_ne (tgt := 85) hx hb dX0_adderOutput_70 (by decide) (fun c_1 => ?_) (fun c_1 => ?_)
    · have ev : of3F g u = of2F g u := by unfold of3F; rw [if_neg c_1]
      exact j85 _ (by rw [ev]; exact lv_sub hl [0, 1, 2, 3, 4] rfl)
    · refine lv_aload_n hx hb dX0_adderOutput_73 rfl (lv_at hl 3 rfl) ?_
      refine lv_aload_n hx hb dX0_adderOutput_74 rfl (lv_at hl 3 rfl) ?_
      refine va_get (D := (dC, dI)) (ci := 0) (v := .int (s_ir u)) (C := RX0) (T := TX0) (N := 11) hx hb hts in_X0 hown hK hP 0 rfl rfl 10 (by decide) (hts _ q85) (fun _ h9 => h9) rfl dX0_adderOutput_75 ?_
      refine lv_bipush (v := 11) hx hb dX0_adderOutput_78 (by decide) ?_
      refine rd_extended ⟨hx, hb, hml, hown, hts⟩ hK hP ⟨Nat.le_of_ble_eq_true rfl, Nat.le_of_ble_eq_true rfl⟩ hl.1 (Nat.le_of_ble_eq_true rfl) dX0_adderOutput_80 ⟨Nat.zero_le _, Nat.zero_le _⟩ ?_
      refine lv_istore (lv' := [(4, .int (extF (s_ir u) 11)), (3, .int (g &&& 12582912)), (2, .int (baseF g u)), (0, .ref h0), (1, .int g)]) hx hb dX0_adderOutput_83 hl (by decide) rfl (fun ls hl => ?_)
      have ev : of3F g u = extF (s_ir u) 11 := by unfold of3F; rw [if_pos c_1]
      exact j85 _ (by rw [ev]; exact lv_sub hl [0, 1, 2, 3, 4] rfl)
  have j49 : ∀ ls : Array Slot, lv_has ls 5 [(4, .int (of1F g u)), (3, .int (g &&& 12582912)), (2, .int (baseF g u)), (0, .ref h0), (1, .int g)] → W p l e (headSpec (ws_ yX0_adderOutput cX0_adderOutput 5 (some .int)) ({ frames := 2, cells := 0, slots := 0, locals := 43 })).room s m ([.ref h0, .int g]).toArray below meth c s.heap [] 0 0 (MQ below (vp_Si (fun r => r = addF g u)) ([.ref h0, .int g]).toArray s 0 0 (fun _ => False)) (F0 m 49 ls []) := by
    intro ls hl
    refine lv_iload_n hx hb dX0_adderOutput_49 rfl (lv_at hl 1 rfl) ?_
    refine lv_ldc (v := 8388608) hx hb hown (hts _ q159) dX0_adderOutput_50 ?_
    refine lv_icmp_ne (tgt := 67) hx hb dX0_adderOutput_52 (by decide) (fun c_2 => ?_) (fun c_2 => ?_)
    · have ev : of2F g u = of1F g u := by unfold of2F; rw [if_neg c_2]
      exact j67 _ (by rw [ev]; exact lv_sub hl [0, 1, 2, 3, 4] rfl)
    · refine lv_aload_n hx hb dX0_adderOutput_55 rfl (lv_at hl 3 rfl) ?_
      refine lv_aload_n hx hb dX0_adderOutput_56 rfl (lv_at hl 3 rfl) ?_
      refine va_get (D := (dC, dI)) (ci := 0) (v := .int (s_ir u)) (C := RX0) (T := TX0) (N := 11) hx hb hts in_X0 hown hK hP 0 rfl rfl 10 (by decide) (hts _ q85) (fun _ h9 => h9) rfl dX0_adderOutput_57 ?_
      refine lv_bipush (v := 9) hx hb dX0_adderOutput_60 (by decide) ?_
      refine rd_extended ⟨hx, hb, hml, hown, hts⟩ hK hP ⟨Nat.le_of_ble_eq_true rfl, Nat.le_of_ble_eq_true rfl⟩ hl.1 (Nat.le_of_ble_eq_true rfl) dX0_adderOutput_62 ⟨Nat.zero_le _, Nat.zero_le _⟩ ?_
      refine lv_istore (lv' := [(4, .int (extF (s_ir u) 9)), (3, .int (g &&& 12582912)), (2, .int (baseF g u)), (0, .ref h0), (1, .int g)]) hx hb dX0_adderOutput_65 hl (by decide) rfl (fun ls hl => ?_)
      have ev : of2F g u = extF (s_ir u) 9 := by unfold of2F; rw [if_pos c_2]
      exact j67 _ (by rw [ev]; exact lv_sub hl [0, 1, 2, 3, 4] rfl)
  have j22 : ∀ v : Int32, v = baseF g u → W p l e (headSpec (ws_ yX0_adderOutput cX0_adderOutput 5 (some .int)) ({ frames := 2, cells := 0, slots := 0, locals := 43 })).room s m ([.ref h0, .int g]).toArray below meth c s.heap [] 0 0 (MQ below (vp_Si (fun r => r = addF g u)) ([.ref h0, .int g]).toArray s 0 0 (fun _ => False)) (F0 m 22 ls [.int v]) := by
    intro v ev
    subst ev
    refine lv_istore_n (lv' := [(2, .int (baseF g u)), (0, .ref h0), (1, .int g)]) hx hb dX0_adderOutput_22 rfl hl (by decide) rfl (fun ls hl => ?_)
    refine lv_iload_n hx hb dX0_adderOutput_23 rfl (lv_at hl 2 rfl) ?_
    refine lv_ldc (v := 12582912) hx hb hown (hts _ q153) dX0_adderOutput_24 ?_
    refine lv_iand hx hb dX0_adderOutput_26 ?_
    refine lv_istore_n (lv' := [(3, .int (g &&& 12582912)), (2, .int (baseF g u)), (0, .ref h0), (1, .int g)]) hx hb dX0_adderOutput_27 rfl hl (by decide) rfl (fun ls hl => ?_)
    refine lv_iconst (v := 0) hx hb dX0_adderOutput_28 (by decide) ?_
    refine lv_istore (lv' := [(4, .int 0), (3, .int (g &&& 12582912)), (2, .int (baseF g u)), (0, .ref h0), (1, .int g)]) hx hb dX0_adderOutput_29 hl (by decide) rfl (fun ls hl => ?_)
    refine lv_iload_n hx hb dX0_adderOutput_31 rfl (lv_at hl 1 rfl) ?_
    refine lv_ldc (v := 4194304) hx hb hown (hts _ q154) dX0_adderOutput_32 ?_
    refine lv_icmp_ne (tgt := 49) hx hb dX0_adderOutput_34 (by decide) (fun c_3 => ?_) (fun c_3 => ?_)
    · have ev : of1F g u = 0 := by unfold of1F; rw [if_neg c_3]
      exact j49 _ (by rw [ev]; exact lv_sub hl [0, 1, 2, 3, 4] rfl)
    · refine lv_aload_n hx hb dX0_adderOutput_37 rfl (lv_at hl 3 rfl) ?_
      refine lv_aload_n hx hb dX0_adderOutput_38 rfl (lv_at hl 3 rfl) ?_
      refine va_get (D := (dC, dI)) (ci := 0) (v := .int (s_ir u)) (C := RX0) (T := TX0) (N := 11) hx hb hts in_X0 hown hK hP 0 rfl rfl 10 (by decide) (hts _ q85) (fun _ h9 => h9) rfl dX0_adderOutput_39 ?_
      refine lv_bipush (v := 6) hx hb dX0_adderOutput_42 (by decide) ?_
      refine rd_extended ⟨hx, hb, hml, hown, hts⟩ hK hP ⟨Nat.le_of_ble_eq_true rfl, Nat.le_of_ble_eq_true rfl⟩ hl.1 (Nat.le_of_ble_eq_true rfl) dX0_adderOutput_44 ⟨Nat.zero_le _, Nat.zero_le _⟩ ?_
      refine lv_istore (lv' := [(4, .int (extF (s_ir u) 6)), (3, .int (g &&& 12582912)), (2, .int (baseF g u)), (0, .ref h0), (1, .int g)]) hx hb dX0_adderOutput_47 hl (by decide) rfl (fun ls hl => ?_)
      have ev : of1F g u = extF (s_ir u) 6 := by unfold of1F; rw [if_pos c_3]
      exact j49 _ (by rw [ev]; exact lv_sub hl [0, 1, 2, 3, 4] rfl)
  refine lv_aload_n hx hb dX0_adderOutput_0 rfl (lv_at hl 0 rfl) ?_
  refine lv_iload_n hx hb dX0_adderOutput_1 rfl (lv_at hl 1 rfl) ?_
  refine lv_ldc (v := 2097152) hx hb hown (hts _ q143) dX0_adderOutput_2 ?_
  refine rd_has ⟨hx, hb, hml, hown, hts⟩ hK hP ⟨Nat.le_of_ble_eq_true rfl, Nat.le_of_ble_eq_true rfl⟩ hl.1 (Nat.le_of_ble_eq_true rfl) dX0_adderOutput_4 ⟨Nat.zero_le _, Nat.zero_le _⟩ ?_
  refine lv_if_eq (tgt := 18) hx hb dX0_adderOutput_7 (by decide) (fun c_4 => ?_) (fun c_4 => ?_)
  · refine lv_aload_n hx hb dX0_adderOutput_18 rfl (lv_at hl 0 rfl) ?_
    refine va_get (D := (dC, dI)) (ci := 0) (v := .int (s_pc u)) (C := RX0) (T := TX0) (N := 11) hx hb hts in_X0 hown hK hP 0 rfl rfl 3 (by decide) (hts _ q78) (fun _ h9 => h9) rfl dX0_adderOutput_19 ?_
    exact j22 _ (by unfold baseF; rw [if_pos c_4])
  · refine lv_aload_n hx hb dX0_adderOutput_10 rfl (lv_at hl 0 rfl) ?_
    refine lv_iload_n hx hb dX0_adderOutput_11 rfl (lv_at hl 1 rfl) ?_
    refine rd_firstSource ⟨hx, hb, hml, hown, hts⟩ hK hP ⟨Nat.le_of_ble_eq_true rfl, Nat.le_of_ble_eq_true rfl⟩ hl.1 (Nat.le_of_ble_eq_true rfl) dX0_adderOutput_12 ⟨Nat.zero_le _, Nat.zero_le _⟩ ?_
    refine lv_goto (tgt := 22) hx hb dX0_adderOutput_15 (by decide) ?_
    exact j22 _ (by unfold baseF; rw [if_neg c_4])
theorem rd_adderOutput {p : Program} {l : Launch} {e : Env} {R : Room} {s : State} {m : MethodId} {args : Array Value} {below : List Frame} {meth : Method} {c : Code} {H : Heap} {locs : List Loc} {cells slots : Nat} {Q : State → Prop} {cc : ByteArray} {pc nL : Nat} {ls : Array Slot} {rest : List Value} {dC : Nat → ClassId} {dI : Nat → Nat → Nat} {h0 qc qm qr : Nat} {d : ClassId} {ct : Nat → Int32} {u : mc_S0} {g : Int32} (S : CallFix p m c cc nL s args lw_all RX0) (hK : va_K (dC, dI) vwCl [(d, .int)] s) (hP : va_P (dC, dI) vwCl (mc_W0 h0 qc qm qr d ct u) H) (hR : 3 ≤ R.frames ∧ 67 ≤ R.locals) (hsz : ls.size = nL) (hrest : (rest.map fun v => v.category).sum ≤ 8) (hdg : decode cc pc = .ok (.invokevirtual 77, 3)) (hf : cells ≤ R.cells ∧ slots ≤ R.slots) (kk : W p l e R s m args below meth c H locs cells slots Q (F0 m (pc + 3) ls (.int (addF g u) :: rest))) : W p l e R s m args below meth c H locs cells slots Q (F0 m pc ls (.int g :: .ref h0 :: rest)) := by
  refine vp_callSi (W.runV (As := [.int g]) (rest := rest) S (met_adderOutput l dC dI h0 qc qm qr d ct u g) (cwV 1 S.2.2.2.2 (lw_V q139 q141 qs5 q23 q142) rfl rfl rfl (by decide +kernel) hR) ⟨fun a U g mk q => ⟨q.1, q.2.1, va_K.moved (u := U) (U := U.calling g mk a) (Vm.Alike.refl U.vm) q.2.2⟩, va_recv hK hP (ci := 0) (q0 := 0) rfl rfl, fun U hU hW => ⟨rfl, by rw [hU]; exact hP, va_K.moved hW.alike hK⟩⟩ rfl rfl hsz rfl (lv_room hrest) hdg hf) (fun r hr => ?_)
  rw [hr]
  exact kk
set_option maxHeartbeats 4000000 in
set_option maxRecDepth 100000 in
theorem met_aluOutput (l : Launch) (dC : Nat → ClassId) (dI : Nat → Nat → Nat) (h0 qc qm qr : Nat) (d : ClassId) (ct : Nat → Int32) (u : mc_S0) (g : Int32) : Met l yX0_aluOutput (ws_ yX0_aluOutput cX0_aluOutput 5 (some .int)) ({ frames := 2, cells := 0, slots := 0, locals := 43 }) (va_Pc [.ref h0, .int g] (fun U => va_P (dC, dI) vwCl (mc_W0 h0 qc qm qr d ct u) U.heap ∧ va_K (dC, dI) vwCl [(d, .int)] U)) (vp_Si (fun r => r = aluF g u)) 0 0 (fun _ => False) := by
  refine Met.ofW (cc := cX0_aluOutput) (maxL := 5) (ret := (some .int)) (by decide) rfl ?_
  intro p e s m args below meth c s₁ B hml hv
  obtain ⟨rfl, hP, hK⟩ := hv
  have hx := B.exec
  have hb := B.bytes
  have hr := B.returns
  have hts := atoms_spec (ws := (ws_ yX0_aluOutput cX0_aluOutput 5 (some .int))) B.pre
  have hts : ∀ w ∈ lw_all, w.before _ s = true := fun w h => hts w (List.mem_cons_of_mem _ h)
  have hown : s.vm.findClass RX0 = some m.cls := findClass_of_methodNamed B.named
  have hlocks := B.notSynchronized
  have hP : va_P (dC, dI) vwCl (mc_W0 h0 qc qm qr d ct u) s.heap := hP
  have hl := lv_entry ([.ref h0, .int g]) (n := 5) (Nat.le_of_ble_eq_true rfl)
  rw [lg_entry_eq]
  generalize (lg_sl ([.ref h0, .int g]) ++ List.replicate (5 - (lg_sl ([.ref h0, .int g])).length) Slot.unset).toArray = ls at hl ⊢
  have hl : lv_has ls 5 [(0, .ref h0), (1, .int g)] := hl
  have j41 : ∀ (v : Int32) (ls : Array Slot), lv_has ls 5 [(2, .int (srcF g u)), (0, .ref h0), (1, .int g)] → v = secF u → W p l e (headSpec (ws_ yX0_aluOutput cX0_aluOutput 5 (some .int)) ({ frames := 2, cells := 0, slots := 0, locals := 43 })).room s m ([.ref h0, .int g]).toArray below meth c s.heap [] 0 0 (MQ below (vp_Si (fun r => r = aluF g u)) ([.ref h0, .int g]).toArray s 0 0 (fun _ => False)) (F0 m 41 ls [.int v]) := by
    intro v ls hl ev
    subst ev
    refine lv_istore_n (lv' := [(3, .int (secF u)), (2, .int (srcF g u)), (0, .ref h0), (1, .int g)]) hx hb dX0_aluOutput_41 rfl hl (by decide) rfl (fun ls hl => ?_)
    refine lv_iload_n hx hb dX0_aluOutput_42 rfl (lv_at hl 3 rfl) ?_
    refine lv_ldc (v := 50331648) hx hb hown (hts _ q171) dX0_aluOutput_43 ?_
    refine lv_iand hx hb dX0_aluOutput_45 ?_
    refine lv_istore (lv' := [(4, .int (g &&& 50331648)), (3, .int (secF u)), (2, .int (srcF g u)), (0, .ref h0), (1, .int g)]) hx hb dX0_aluOutput_46 hl (by decide) rfl (fun ls hl => ?_)
    refine lv_iload hx hb dX0_aluOutput_48 (lv_at hl 0 rfl) ?_
    refine lv_ldc (v := 16777216) hx hb hown (hts _ q172) dX0_aluOutput_50 ?_
    refine lv_icmp_ne (tgt := 59) hx hb dX0_aluOutput_52 (by decide) (fun c_1 => ?_) (fun c_1 => ?_)
    · refine lv_iload hx hb dX0_aluOutput_59 (lv_at hl 0 rfl) ?_
      refine lv_ldc (v := 33554432) hx hb hown (hts _ q173) dX0_aluOutput_61 ?_
      refine lv_icmp_ne (tgt := 73) hx hb dX0_aluOutput_63 (by decide) (fun c_2 => ?_) (fun c_2 => ?_)
      · refine lv_iload hx hb dX0_aluOutput_73 (lv_at hl 0 rfl) ?_
        refine lv_ldc (v := 50331648) hx hb hown (hts _ q171) dX0_aluOutput_75 ?_
        refine lv_icmp_ne (tgt := 82) hx hb dX0_aluOutput_77 (by decide) (fun c_3 => ?_) (fun c_3 => ?_)
        · refine lv_iload_n hx hb dX0_aluOutput_82 rfl (lv_at hl 2 rfl) ?_
          refine lv_iload_n hx hb dX0_aluOutput_83 rfl (lv_at hl 1 rfl) ?_
          refine lv_iadd hx hb dX0_aluOutput_84 ?_
          refine lv_ldc (v := 65535) hx hb hown (hts _ q114) dX0_aluOutput_85 ?_
          refine lv_iand hx hb dX0_aluOutput_87 ?_
          exact W.iret (v := ((srcF g u) + (secF u)) &&& 65535) hx hb hr (fun t ht hW => ⟨((srcF g u) + (secF u)) &&& 65535, rfl, (by show ((srcF g u) + (secF u)) &&& 65535 = aluF g u; unfold aluF; rw [if_neg c_1, if_neg c_2, if_neg c_3]), ht⟩) (fun q h => by cases h) dX0_aluOutput_88
        · refine lv_iload_n hx hb dX0_aluOutput_80 rfl (lv_at hl 2 rfl) ?_
          exact W.iret (v := srcF g u) hx hb hr (fun t ht hW => ⟨srcF g u, rfl, (by show srcF g u = aluF g u; unfold aluF; rw [if_neg c_1, if_neg c_2, if_pos c_3]), ht⟩) (fun q h => by cases h) dX0_aluOutput_81
      · refine lv_iload_n hx hb dX0_aluOutput_66 rfl (lv_at hl 2 rfl) ?_
        refine lv_iconst (v := (-1)) hx hb dX0_aluOutput_67 (by decide) ?_
        refine lv_ixor hx hb dX0_aluOutput_68 ?_
        refine lv_ldc (v := 65535) hx hb hown (hts _ q114) dX0_aluOutput_69 ?_
        refine lv_iand hx hb dX0_aluOutput_71 ?_
        exact W.iret (v := ((srcF g u) ^^^ (-1)) &&& 65535) hx hb hr (fun t ht hW => ⟨((srcF g u) ^^^ (-1)) &&& 65535, rfl, (by show ((srcF g u) ^^^ (-1)) &&& 65535 = aluF g u; unfold aluF; rw [if_neg c_1, if_pos c_2]), ht⟩) (fun q h => by cases h) dX0_aluOutput_72
    · refine lv_iload_n hx hb dX0_aluOutput_55 rfl (lv_at hl 2 rfl) ?_
      refine lv_iload_n hx hb dX0_aluOutput_56 rfl (lv_at hl 1 rfl) ?_
      refine lv_iand hx hb dX0_aluOutput_57 ?_
      exact W.iret (v := (srcF g u) &&& (secF u)) hx hb hr (fun t ht hW => ⟨(srcF g u) &&& (secF u), rfl, (by show (srcF g u) &&& (secF u) = aluF g u; unfold aluF; rw [if_pos c_1]), ht⟩) (fun q h => by cases h) dX0_aluOutput_58
  refine lv_aload_n hx hb dX0_aluOutput_0 rfl (lv_at hl 0 rfl) ?_
  refine lv_iload_n hx hb dX0_aluOutput_1 rfl (lv_at hl 1 rfl) ?_
  refine rd_firstSource ⟨hx, hb, hml, hown, hts⟩ hK hP ⟨Nat.le_of_ble_eq_true rfl, Nat.le_of_ble_eq_true rfl⟩ hl.1 (Nat.le_of_ble_eq_true rfl) dX0_aluOutput_2 ⟨Nat.zero_le _, Nat.zero_le _⟩ ?_
  refine lv_istore_n (lv' := [(2, .int (srcF g u)), (0, .ref h0), (1, .int g)]) hx hb dX0_aluOutput_5 rfl hl (by decide) rfl (fun ls hl => ?_)
  refine lv_aload_n hx hb dX0_aluOutput_6 rfl (lv_at hl 1 rfl) ?_
  refine va_get (D := (dC, dI)) (ci := 0) (v := .int (s_ir u)) (C := RX0) (T := TX0) (N := 11) hx hb hts in_X0 hown hK hP 0 rfl rfl 10 (by decide) (hts _ q85) (fun _ h9 => h9) rfl dX0_aluOutput_7 ?_
  refine lv_iconst (v := 5) hx hb dX0_aluOutput_10 (by decide) ?_
  refine lv_ishr hx hb dX0_aluOutput_11 ?_
  refine lv_iconst (v := 1) hx hb dX0_aluOutput_12 (by decide) ?_
  refine lv_iand hx hb dX0_aluOutput_13 ?_
  refine lv_if_ne (tgt := 32) hx hb dX0_aluOutput_14 (by decide) (fun c_4 => ?_) (fun c_4 => ?_)
  · refine lv_aload_n hx hb dX0_aluOutput_32 rfl (lv_at hl 1 rfl) ?_
    refine lv_aload_n hx hb dX0_aluOutput_33 rfl (lv_at hl 1 rfl) ?_
    refine va_get (D := (dC, dI)) (ci := 0) (v := .int (s_ir u)) (C := RX0) (T := TX0) (N := 11) hx hb hts in_X0 hown hK hP 0 rfl rfl 10 (by decide) (hts _ q85) (fun _ h9 => h9) rfl dX0_aluOutput_34 ?_
    refine lv_iconst (v := 5) hx hb dX0_aluOutput_37 (by decide) ?_
    refine rd_extended ⟨hx, hb, hml, hown, hts⟩ hK hP ⟨Nat.le_of_ble_eq_true rfl, Nat.le_of_ble_eq_true rfl⟩ hl.1 (Nat.le_of_ble_eq_true rfl) dX0_aluOutput_38 ⟨Nat.zero_le _, Nat.zero_le _⟩ ?_
    exact j41 _ ls hl (by unfold secF; rw [if_neg c_4])
  · refine lv_aload_n hx hb dX0_aluOutput_17 rfl (lv_at hl 1 rfl) ?_
    refine va_get (D := (dC, dI)) (ci := 0) (v := .ref qr) (C := RX0) (T := TX0) (N := 11) hx hb hts in_X0 hown hK hP 0 rfl rfl 2 (by decide) (hts _ q77) (fun _ h9 => h9) rfl dX0_aluOutput_18 ?_
    refine lv_aload_n hx hb dX0_aluOutput_21 rfl (lv_at hl 1 rfl) ?_
    refine va_get (D := (dC, dI)) (ci := 0) (v := .int (s_ir u)) (C := RX0) (T := TX0) (N := 11) hx hb hts in_X0 hown hK hP 0 rfl rfl 10 (by decide) (hts _ q85) (fun _ h9 => h9) rfl dX0_aluOutput_22 ?_
    refine lv_bipush (v := 7) hx hb dX0_aluOutput_25 (by decide) ?_
    refine lv_iand hx hb dX0_aluOutput_27 ?_
    refine va_iald hx hb hK hP 3 0 rfl rfl (in7 _) dX0_aluOutput_28 ?_
    refine lv_goto (tgt := 41) hx hb dX0_aluOutput_29 (by decide) ?_
    exact j41 _ ls hl (by unfold secF; rw [if_pos c_4])
theorem rd_aluOutput {p : Program} {l : Launch} {e : Env} {R : Room} {s : State} {m : MethodId} {args : Array Value} {below : List Frame} {meth : Method} {c : Code} {H : Heap} {locs : List Loc} {cells slots : Nat} {Q : State → Prop} {cc : ByteArray} {pc nL : Nat} {ls : Array Slot} {rest : List Value} {dC : Nat → ClassId} {dI : Nat → Nat → Nat} {h0 qc qm qr : Nat} {d : ClassId} {ct : Nat → Int32} {u : mc_S0} {g : Int32} (S : CallFix p m c cc nL s args lw_all RX0) (hK : va_K (dC, dI) vwCl [(d, .int)] s) (hP : va_P (dC, dI) vwCl (mc_W0 h0 qc qm qr d ct u) H) (hR : 3 ≤ R.frames ∧ 67 ≤ R.locals) (hsz : ls.size = nL) (hrest : (rest.map fun v => v.category).sum ≤ 8) (hdg : decode cc pc = .ok (.invokevirtual 127, 3)) (hf : cells ≤ R.cells ∧ slots ≤ R.slots) (kk : W p l e R s m args below meth c H locs cells slots Q (F0 m (pc + 3) ls (.int (aluF g u) :: rest))) : W p l e R s m args below meth c H locs cells slots Q (F0 m pc ls (.int g :: .ref h0 :: rest)) := by
  refine vp_callSi (W.runV (As := [.int g]) (rest := rest) S (met_aluOutput l dC dI h0 qc qm qr d ct u g) (cwV 1 S.2.2.2.2 (lw_V q167 q169 qs10 q23 q170) rfl rfl rfl (by decide +kernel) hR) ⟨fun a U g mk q => ⟨q.1, q.2.1, va_K.moved (u := U) (U := U.calling g mk a) (Vm.Alike.refl U.vm) q.2.2⟩, va_recv hK hP (ci := 0) (q0 := 0) rfl rfl, fun U hU hW => ⟨rfl, by rw [hU]; exact hP, va_K.moved hW.alike hK⟩⟩ rfl rfl hsz rfl (lv_room hrest) hdg hf) (fun r hr => ?_)
  rw [hr]
  exact kk
set_option maxHeartbeats 4000000 in
set_option maxRecDepth 100000 in
theorem met_busValue (l : Launch) (dC : Nat → ClassId) (dI : Nat → Nat → Nat) (h0 qc qm qr : Nat) (d : ClassId) (ct : Nat → Int32) (u : mc_S0) (g : Int32) (a : Int32) : Met l yX0_busValue (ws_ yX0_busValue cX0_busValue 4 (some .int)) ({ frames := 3, cells := 0, slots := 0, locals := 67 }) (va_Pc [.ref h0, .int g, .int a] (fun U => va_P (dC, dI) vwCl (mc_W0 h0 qc qm qr d ct u) U.heap ∧ va_K (dC, dI) vwCl [(d, .int)] U)) (vp_Si (fun r => r = busF g a u)) 0 0 (fun _ => False) := by
  refine Met.ofW (cc := cX0_busValue) (maxL := 4) (ret := (some .int)) (by decide) rfl ?_
  intro p e s m args below meth c s₁ B hml hv
  obtain ⟨rfl, hP, hK⟩ := hv
  have hx := B.exec
  have hb := B.bytes
  have hr := B.returns
  have hts := atoms_spec (ws := (ws_ yX0_busValue cX0_busValue 4 (some .int))) B.pre
  have hts : ∀ w ∈ lw_all, w.before _ s = true := fun w h => hts w (List.mem_cons_of_mem _ h)
  have hown : s.vm.findClass RX0 = some m.cls := findClass_of_methodNamed B.named
  have hlocks := B.notSynchronized
  have hP : va_P (dC, dI) vwCl (mc_W0 h0 qc qm qr d ct u) s.heap := hP
  have hl := lv_entry ([.ref h0, .int g, .int a]) (n := 4) (Nat.le_of_ble_eq_true rfl)
  rw [lg_entry_eq]
  generalize (lg_sl ([.ref h0, .int g, .int a]) ++ List.replicate (4 - (lg_sl ([.ref h0, .int g, .int a])).length) Slot.unset).toArray = ls at hl ⊢
  have hl : lv_has ls 4 [(0, .ref h0), (1, .int g), (2, .int a)] := hl
  refine lv_iload_n hx hb dX0_busValue_0 rfl (lv_at hl 1 rfl) ?_
  refine lv_ldc (v := 114688) hx hb hown (hts _ q164) dX0_busValue_1 ?_
  refine lv_iand hx hb dX0_busValue_3 ?_
  refine lv_istore_n (lv' := [(3, .int (g &&& 114688)), (0, .ref h0), (1, .int g), (2, .int a)]) hx hb dX0_busValue_4 rfl hl (by decide) rfl (fun ls hl => ?_)
  refine lv_iload_n hx hb dX0_busValue_5 rfl (lv_at hl 0 rfl) ?_
  refine lv_sipush (v := 16384) hx hb dX0_busValue_6 (by decide) ?_
  refine lv_icmp_ne (tgt := 17) hx hb dX0_busValue_9 (by decide) (fun c_1 => ?_) (fun c_1 => ?_)
  · refine lv_iload_n hx hb dX0_busValue_17 rfl (lv_at hl 0 rfl) ?_
    refine lv_ldc (v := 32768) hx hb hown (hts _ q165) dX0_busValue_18 ?_
    refine lv_icmp_ne (tgt := 28) hx hb dX0_busValue_20 (by decide) (fun c_2 => ?_) (fun c_2 => ?_)
    · refine lv_iload_n hx hb dX0_busValue_28 rfl (lv_at hl 0 rfl) ?_
      refine lv_ldc (v := 49152) hx hb hown (hts _ q166) dX0_busValue_29 ?_
      refine lv_icmp_ne (tgt := 40) hx hb dX0_busValue_31 (by decide) (fun c_3 => ?_) (fun c_3 => ?_)
      · refine lv_iload_n hx hb dX0_busValue_40 rfl (lv_at hl 0 rfl) ?_
        refine lv_ldc (v := 65536) hx hb hown (hts _ q174) dX0_busValue_41 ?_
        refine lv_icmp_ne (tgt := 50) hx hb dX0_busValue_43 (by decide) (fun c_4 => ?_) (fun c_4 => ?_)
        · refine lv_iconst (v := 0) hx hb dX0_busValue_50 (by decide) ?_
          exact W.iret (v := 0) hx hb hr (fun t ht hW => ⟨0, rfl, (by show 0 = busF g a u; unfold busF; rw [if_neg c_1, if_neg c_2, if_neg c_3, if_neg c_4]), ht⟩) (fun q h => by cases h) dX0_busValue_51
        · refine lv_iload_n hx hb dX0_busValue_46 rfl (lv_at hl 3 rfl) ?_
          refine lv_goto (tgt := 51) hx hb dX0_busValue_47 (by decide) ?_
          exact W.iret (v := a) hx hb hr (fun t ht hW => ⟨a, rfl, (by show a = busF g a u; unfold busF; rw [if_neg c_1, if_neg c_2, if_neg c_3, if_pos c_4]), ht⟩) (fun q h => by cases h) dX0_busValue_51
      · refine lv_aload_n hx hb dX0_busValue_34 rfl (lv_at hl 1 rfl) ?_
        refine lv_iload_n hx hb dX0_busValue_35 rfl (lv_at hl 2 rfl) ?_
        refine rd_aluOutput ⟨hx, hb, hml, hown, hts⟩ hK hP ⟨Nat.le_of_ble_eq_true rfl, Nat.le_of_ble_eq_true rfl⟩ hl.1 (Nat.le_of_ble_eq_true rfl) dX0_busValue_36 ⟨Nat.zero_le _, Nat.zero_le _⟩ ?_
        exact W.iret (v := aluF g u) hx hb hr (fun t ht hW => ⟨aluF g u, rfl, (by show aluF g u = busF g a u; unfold busF; rw [if_neg c_1, if_neg c_2, if_pos c_3]), ht⟩) (fun q h => by cases h) dX0_busValue_39
    · refine lv_aload_n hx hb dX0_busValue_23 rfl (lv_at hl 1 rfl) ?_
      refine va_get (D := (dC, dI)) (ci := 0) (v := .int (s_mdr u)) (C := RX0) (T := TX0) (N := 11) hx hb hts in_X0 hown hK hP 0 rfl rfl 9 (by decide) (hts _ q84) (fun _ h9 => h9) rfl dX0_busValue_24 ?_
      exact W.iret (v := s_mdr u) hx hb hr (fun t ht hW => ⟨s_mdr u, rfl, (by show s_mdr u = busF g a u; unfold busF; rw [if_neg c_1, if_pos c_2]), ht⟩) (fun q h => by cases h) dX0_busValue_27
  · refine lv_aload_n hx hb dX0_busValue_12 rfl (lv_at hl 1 rfl) ?_
    refine va_get (D := (dC, dI)) (ci := 0) (v := .int (s_pc u)) (C := RX0) (T := TX0) (N := 11) hx hb hts in_X0 hown hK hP 0 rfl rfl 3 (by decide) (hts _ q78) (fun _ h9 => h9) rfl dX0_busValue_13 ?_
    exact W.iret (v := s_pc u) hx hb hr (fun t ht hW => ⟨s_pc u, rfl, (by show s_pc u = busF g a u; unfold busF; rw [if_pos c_1]), ht⟩) (fun q h => by cases h) dX0_busValue_16
theorem rd_busValue {p : Program} {l : Launch} {e : Env} {R : Room} {s : State} {m : MethodId} {args : Array Value} {below : List Frame} {meth : Method} {c : Code} {H : Heap} {locs : List Loc} {cells slots : Nat} {Q : State → Prop} {cc : ByteArray} {pc nL : Nat} {ls : Array Slot} {rest : List Value} {dC : Nat → ClassId} {dI : Nat → Nat → Nat} {h0 qc qm qr : Nat} {d : ClassId} {ct : Nat → Int32} {u : mc_S0} {g a : Int32} (S : CallFix p m c cc nL s args lw_all RX0) (hK : va_K (dC, dI) vwCl [(d, .int)] s) (hP : va_P (dC, dI) vwCl (mc_W0 h0 qc qm qr d ct u) H) (hR : 4 ≤ R.frames ∧ 90 ≤ R.locals) (hsz : ls.size = nL) (hrest : (rest.map fun v => v.category).sum ≤ 8) (hdg : decode cc pc = .ok (.invokevirtual 81, 3)) (hf : cells ≤ R.cells ∧ slots ≤ R.slots) (kk : W p l e R s m args below meth c H locs cells slots Q (F0 m (pc + 3) ls (.int (busF g a u) :: rest))) : W p l e R s m args below meth c H locs cells slots Q (F0 m pc ls (.int a :: .int g :: .ref h0 :: rest)) := by
  refine vp_callSi (W.runV (As := [.int g, .int a]) (rest := rest) S (met_busValue l dC dI h0 qc qm qr d ct u g a) (cwV 2 S.2.2.2.2 (lw_V q160 q162 qs9 q23 q163) rfl rfl rfl (by decide +kernel) hR) ⟨fun a U g mk q => ⟨q.1, q.2.1, va_K.moved (u := U) (U := U.calling g mk a) (Vm.Alike.refl U.vm) q.2.2⟩, va_recv hK hP (ci := 0) (q0 := 0) rfl rfl, fun U hU hW => ⟨rfl, by rw [hU]; exact hP, va_K.moved hW.alike hK⟩⟩ rfl rfl hsz rfl (lv_room hrest) hdg hf) (fun r hr => ?_)
  rw [hr]
  exact kk
end
section
/-! MicroLc3.cycle: a row for each 'if', then the method -/
set_option maxHeartbeats 4000000 in
set_option maxRecDepth 100000 in
theorem cy_53 {p : Program} {l : Launch} {e : Env} {R : Room} {s : State} {m : MethodId} {args : Array Value} {below : List Frame} {meth : Method} {c : Code} {Q : State → Prop} {dC : Nat → ClassId} {dI : Nat → Nat → Nat} {A : Nat → Prop} {h0 qc qm qr : Nat} {d : ClassId} {ct : Nat → Int32} {g ad bus fm np nx : Int32} {ls : Array Slot} (hx : p.tables.exec = Jvm.exec) (hb : c.code = cX0_cycle) (hml : c.maxLocals = 7) (hown : s.vm.findClass RX0 = some m.cls) (hts : ∀ w ∈ lw_all, w.before args s = true) (hR : 1 ≤ R.frames ∧ 22 ≤ R.locals) (hK : va_K (dC, dI) vwCl [(d, .int)] s) (hl : lv_has ls 7 [(6, .int nx), (5, .int np), (4, .int fm), (3, .int bus), (2, .int ad), (1, .int g), (0, .ref h0)]) {u : mc_S0} {H : Heap} {locs : List Loc} (hP : va_P (dC, dI) vwCl (mc_W0 h0 qc qm qr d ct u) H) (hD : va_D A (mc_W0 h0 qc qm qr d ct u)) (hS : va_S A s.heap H locs) (kk : ∀ (H : Heap) (locs : List Loc), va_P (dC, dI) vwCl (mc_W0 h0 qc qm qr d ct (cy1 g u)) H → va_D A (mc_W0 h0 qc qm qr d ct (cy1 g u)) → va_S A s.heap H locs → W p l e R s m args below meth c H locs 0 0 Q (F0 m 79 ls [])) : W p l e R s m args below meth c H locs 0 0 Q (F0 m 53 ls []) := by
  refine lv_aload_n hx hb dX0_cycle_53 rfl (lv_at hl 6 rfl) ?_
  refine lv_iload_n hx hb dX0_cycle_54 rfl (lv_at hl 5 rfl) ?_
  refine lv_ldc (v := 134217728) hx hb hown (hts _ q186) dX0_cycle_55 ?_
  refine rd_has ⟨hx, hb, hml, hown, hts⟩ hK hP hR hl.1 (Nat.le_of_ble_eq_true rfl) dX0_cycle_57 ⟨Nat.zero_le _, Nat.zero_le _⟩ ?_
  refine lv_if_eq (tgt := 79) hx hb dX0_cycle_60 (by decide) (fun c_1 => ?_) (fun c_1 => ?_)
  · have ev : cy1 g u = u := by unfold cy1; rw [if_pos c_1]
    rw [ev] at kk
    exact kk _ _ hP hD hS
  · refine lv_aload_n hx hb dX0_cycle_63 rfl (lv_at hl 6 rfl) ?_
    refine va_get (D := (dC, dI)) (ci := 0) (v := .ref qm) (C := RX0) (T := TX0) (N := 11) hx hb hts in_X0 hown hK hP 0 rfl rfl 1 (by decide) (hts _ q76) (fun _ h9 => h9) rfl dX0_cycle_64 ?_
    refine lv_aload_n hx hb dX0_cycle_67 rfl (lv_at hl 6 rfl) ?_
    refine va_get (D := (dC, dI)) (ci := 0) (v := .int (s_mar u)) (C := RX0) (T := TX0) (N := 11) hx hb hts in_X0 hown hK hP 0 rfl rfl 8 (by decide) (hts _ q83) (fun _ h9 => h9) rfl dX0_cycle_68 ?_
    refine lv_bipush (v := 63) hx hb dX0_cycle_71 (by decide) ?_
    refine lv_iand hx hb dX0_cycle_73 ?_
    refine lv_aload_n hx hb dX0_cycle_74 rfl (lv_at hl 6 rfl) ?_
    refine va_get (D := (dC, dI)) (ci := 0) (v := .int (s_mdr u)) (C := RX0) (T := TX0) (N := 11) hx hb hts in_X0 hown hK hP 0 rfl rfl 9 (by decide) (hts _ q84) (fun _ h9 => h9) rfl dX0_cycle_75 ?_
    refine va_iast hx hb hK hP hD hS 2 0 rfl rfl (in63 _) dX0_cycle_78 (fun H locs hP hD hS => ?_)
    have hP : va_P (dC, dI) vwCl (mc_W0 h0 qc qm qr d ct (put_mm u (upd (s_mm u) ((s_mar u) &&& 63).toNatClampNeg (s_mdr u)))) H := hP
    have hD : va_D A (mc_W0 h0 qc qm qr d ct (put_mm u (upd (s_mm u) ((s_mar u) &&& 63).toNatClampNeg (s_mdr u)))) := hD
    have ev : cy1 g u = put_mm u (upd (s_mm u) ((s_mar u) &&& 63).toNatClampNeg (s_mdr u)) := by unfold cy1; rw [if_neg c_1]
    rw [ev] at kk
    exact kk _ _ hP hD hS
set_option maxHeartbeats 4000000 in
set_option maxRecDepth 100000 in
theorem cy_79 {p : Program} {l : Launch} {e : Env} {R : Room} {s : State} {m : MethodId} {args : Array Value} {below : List Frame} {meth : Method} {c : Code} {Q : State → Prop} {dC : Nat → ClassId} {dI : Nat → Nat → Nat} {A : Nat → Prop} {h0 qc qm qr : Nat} {d : ClassId} {ct : Nat → Int32} {g ad bus fm np nx : Int32} {ls : Array Slot} (hx : p.tables.exec = Jvm.exec) (hb : c.code = cX0_cycle) (hml : c.maxLocals = 7) (hown : s.vm.findClass RX0 = some m.cls) (hts : ∀ w ∈ lw_all, w.before args s = true) (hR : 1 ≤ R.frames ∧ 22 ≤ R.locals) (hK : va_K (dC, dI) vwCl [(d, .int)] s) (hl : lv_has ls 7 [(6, .int nx), (5, .int np), (4, .int fm), (3, .int bus), (2, .int ad), (1, .int g), (0, .ref h0)]) {u : mc_S0} {H : Heap} {locs : List Loc} (hP : va_P (dC, dI) vwCl (mc_W0 h0 qc qm qr d ct u) H) (hD : va_D A (mc_W0 h0 qc qm qr d ct u)) (hS : va_S A s.heap H locs) (kk : ∀ (H : Heap) (locs : List Loc), va_P (dC, dI) vwCl (mc_W0 h0 qc qm qr d ct (cy2 g bus u)) H → va_D A (mc_W0 h0 qc qm qr d ct (cy2 g bus u)) → va_S A s.heap H locs → W p l e R s m args below meth c H locs 0 0 Q (F0 m 95 ls [])) : W p l e R s m args below meth c H locs 0 0 Q (F0 m 79 ls []) := by
  refine lv_aload_n hx hb dX0_cycle_79 rfl (lv_at hl 6 rfl) ?_
  refine lv_iload_n hx hb dX0_cycle_80 rfl (lv_at hl 5 rfl) ?_
  refine lv_sipush (v := 256) hx hb dX0_cycle_81 (by decide) ?_
  refine rd_has ⟨hx, hb, hml, hown, hts⟩ hK hP hR hl.1 (Nat.le_of_ble_eq_true rfl) dX0_cycle_84 ⟨Nat.zero_le _, Nat.zero_le _⟩ ?_
  refine lv_if_eq (tgt := 95) hx hb dX0_cycle_87 (by decide) (fun c_1 => ?_) (fun c_1 => ?_)
  · have ev : cy2 g bus u = u := by unfold cy2; rw [if_pos c_1]
    rw [ev] at kk
    exact kk _ _ hP hD hS
  · refine lv_aload_n hx hb dX0_cycle_90 rfl (lv_at hl 6 rfl) ?_
    refine lv_iload_n hx hb dX0_cycle_91 rfl (lv_at hl 3 rfl) ?_
    refine va_put (D := (dC, dI)) (ci := 0) (v := .int bus) (ty := .int) (C := RX0) (T := TX0) (N := 11) hx hb hts in_X0 tyX0 tyX0_ok nmX0 hown hK hP hD hS 0 rfl rfl 8 (by decide) (hts _ q83) (fun _ h9 => h9) rfl (by decide +kernel) rfl rfl (Nat.le_of_ble_eq_true rfl) dX0_cycle_92 (fun H locs hP hD hS => ?_)
    have hP : va_P (dC, dI) vwCl (mc_W0 h0 qc qm qr d ct (put_mar u bus)) H := hP
    have hD : va_D A (mc_W0 h0 qc qm qr d ct (put_mar u bus)) := hD
    have ev : cy2 g bus u = put_mar u bus := by unfold cy2; rw [if_neg c_1]
    rw [ev] at kk
    exact kk _ _ hP hD hS
set_option maxHeartbeats 4000000 in
set_option maxRecDepth 100000 in
theorem cy_95 {p : Program} {l : Launch} {e : Env} {R : Room} {s : State} {m : MethodId} {args : Array Value} {below : List Frame} {meth : Method} {c : Code} {Q : State → Prop} {dC : Nat → ClassId} {dI : Nat → Nat → Nat} {A : Nat → Prop} {h0 qc qm qr : Nat} {d : ClassId} {ct : Nat → Int32} {g ad bus fm np nx : Int32} {ls : Array Slot} (hx : p.tables.exec = Jvm.exec) (hb : c.code = cX0_cycle) (hml : c.maxLocals = 7) (hown : s.vm.findClass RX0 = some m.cls) (hts : ∀ w ∈ lw_all, w.before args s = true) (hR : 1 ≤ R.frames ∧ 22 ≤ R.locals) (hK : va_K (dC, dI) vwCl [(d, .int)] s) (hl : lv_has ls 7 [(6, .int nx), (5, .int np), (4, .int fm), (3, .int bus), (2, .int ad), (1, .int g), (0, .ref h0)]) {u : mc_S0} {H : Heap} {locs : List Loc} (hP : va_P (dC, dI) vwCl (mc_W0 h0 qc qm qr d ct u) H) (hD : va_D A (mc_W0 h0 qc qm qr d ct u)) (hS : va_S A s.heap H locs) (kk : ∀ (H : Heap) (locs : List Loc), va_P (dC, dI) vwCl (mc_W0 h0 qc qm qr d ct (cy3 g bus fm u)) H → va_D A (mc_W0 h0 qc qm qr d ct (cy3 g bus fm u)) → va_S A s.heap H locs → W p l e R s m args below meth c H locs 0 0 Q (F0 m 126 ls [])) : W p l e R s m args below meth c H locs 0 0 Q (F0 m 95 ls []) := by
  refine lv_aload_n hx hb dX0_cycle_95 rfl (lv_at hl 6 rfl) ?_
  refine lv_iload_n hx hb dX0_cycle_96 rfl (lv_at hl 5 rfl) ?_
  refine lv_sipush (v := 512) hx hb dX0_cycle_97 (by decide) ?_
  refine rd_has ⟨hx, hb, hml, hown, hts⟩ hK hP hR hl.1 (Nat.le_of_ble_eq_true rfl) dX0_cycle_100 ⟨Nat.zero_le _, Nat.zero_le _⟩ ?_
  refine lv_if_eq (tgt := 126) hx hb dX0_cycle_103 (by decide) (fun c_1 => ?_) (fun c_1 => ?_)
  · have ev : cy3 g bus fm u = u := by unfold cy3; rw [if_pos c_1]
    rw [ev] at kk
    exact kk _ _ hP hD hS
  · refine lv_aload_n hx hb dX0_cycle_106 rfl (lv_at hl 6 rfl) ?_
    refine lv_aload_n hx hb dX0_cycle_107 rfl (lv_at hl 6 rfl) ?_
    refine lv_iload_n hx hb dX0_cycle_108 rfl (lv_at hl 5 rfl) ?_
    refine lv_ldc (v := 67108864) hx hb hown (hts _ q187) dX0_cycle_109 ?_
    refine rd_has ⟨hx, hb, hml, hown, hts⟩ hK hP hR hl.1 (Nat.le_of_ble_eq_true rfl) dX0_cycle_111 ⟨Nat.zero_le _, Nat.zero_le _⟩ ?_
    refine lv_if_eq (tgt := 122) hx hb dX0_cycle_114 (by decide) (fun c_2 => ?_) (fun c_2 => ?_)
    · refine lv_iload_n hx hb dX0_cycle_122 rfl (lv_at hl 3 rfl) ?_
      refine va_put (D := (dC, dI)) (ci := 0) (v := .int bus) (ty := .int) (C := RX0) (T := TX0) (N := 11) hx hb hts in_X0 tyX0 tyX0_ok nmX0 hown hK hP hD hS 0 rfl rfl 9 (by decide) (hts _ q84) (fun _ h9 => h9) rfl (by decide +kernel) rfl rfl (Nat.le_of_ble_eq_true rfl) dX0_cycle_123 (fun H locs hP hD hS => ?_)
      have hP : va_P (dC, dI) vwCl (mc_W0 h0 qc qm qr d ct (put_mdr u bus)) H := hP
      have hD : va_D A (mc_W0 h0 qc qm qr d ct (put_mdr u bus)) := hD
      have ev : cy3 g bus fm u = put_mdr u bus := by unfold cy3; rw [if_neg c_1, if_pos c_2]
      rw [ev] at kk
      exact kk _ _ hP hD hS
    · refine lv_iload hx hb dX0_cycle_117 (lv_at hl 2 rfl) ?_
      refine lv_goto (tgt := 123) hx hb dX0_cycle_119 (by decide) ?_
      refine va_put (D := (dC, dI)) (ci := 0) (v := .int fm) (ty := .int) (C := RX0) (T := TX0) (N := 11) hx hb hts in_X0 tyX0 tyX0_ok nmX0 hown hK hP hD hS 0 rfl rfl 9 (by decide) (hts _ q84) (fun _ h9 => h9) rfl (by decide +kernel) rfl rfl (Nat.le_of_ble_eq_true rfl) dX0_cycle_123 (fun H locs hP hD hS => ?_)
      have hP : va_P (dC, dI) vwCl (mc_W0 h0 qc qm qr d ct (put_mdr u fm)) H := hP
      have hD : va_D A (mc_W0 h0 qc qm qr d ct (put_mdr u fm)) := hD
      have ev : cy3 g bus fm u = put_mdr u fm := by unfold cy3; rw [if_neg c_1, if_neg c_2]
      rw [ev] at kk
      exact kk _ _ hP hD hS
set_option maxHeartbeats 4000000 in
set_option maxRecDepth 100000 in
theorem cy_126 {p : Program} {l : Launch} {e : Env} {R : Room} {s : State} {m : MethodId} {args : Array Value} {below : List Frame} {meth : Method} {c : Code} {Q : State → Prop} {dC : Nat → ClassId} {dI : Nat → Nat → Nat} {A : Nat → Prop} {h0 qc qm qr : Nat} {d : ClassId} {ct : Nat → Int32} {g ad bus fm np nx : Int32} {ls : Array Slot} (hx : p.tables.exec = Jvm.exec) (hb : c.code = cX0_cycle) (hml : c.maxLocals = 7) (hown : s.vm.findClass RX0 = some m.cls) (hts : ∀ w ∈ lw_all, w.before args s = true) (hR : 1 ≤ R.frames ∧ 22 ≤ R.locals) (hK : va_K (dC, dI) vwCl [(d, .int)] s) (hl : lv_has ls 7 [(6, .int nx), (5, .int np), (4, .int fm), (3, .int bus), (2, .int ad), (1, .int g), (0, .ref h0)]) {u : mc_S0} {H : Heap} {locs : List Loc} (hP : va_P (dC, dI) vwCl (mc_W0 h0 qc qm qr d ct u) H) (hD : va_D A (mc_W0 h0 qc qm qr d ct u)) (hS : va_S A s.heap H locs) (kk : ∀ (H : Heap) (locs : List Loc), va_P (dC, dI) vwCl (mc_W0 h0 qc qm qr d ct (cy4 g bus u)) H → va_D A (mc_W0 h0 qc qm qr d ct (cy4 g bus u)) → va_S A s.heap H locs → W p l e R s m args below meth c H locs 0 0 Q (F0 m 168 ls [])) : W p l e R s m args below meth c H locs 0 0 Q (F0 m 126 ls []) := by
  refine lv_aload_n hx hb dX0_cycle_126 rfl (lv_at hl 6 rfl) ?_
  refine lv_iload_n hx hb dX0_cycle_127 rfl (lv_at hl 5 rfl) ?_
  refine lv_sipush (v := 4096) hx hb dX0_cycle_128 (by decide) ?_
  refine rd_has ⟨hx, hb, hml, hown, hts⟩ hK hP hR hl.1 (Nat.le_of_ble_eq_true rfl) dX0_cycle_131 ⟨Nat.zero_le _, Nat.zero_le _⟩ ?_
  refine lv_if_eq (tgt := 168) hx hb dX0_cycle_134 (by decide) (fun c_1 => ?_) (fun c_1 => ?_)
  · have ev : cy4 g bus u = u := by unfold cy4; rw [if_pos c_1]
    rw [ev] at kk
    exact kk _ _ hP hD hS
  · refine lv_aload_n hx hb dX0_cycle_137 rfl (lv_at hl 6 rfl) ?_
    refine va_get (D := (dC, dI)) (ci := 0) (v := .ref qr) (C := RX0) (T := TX0) (N := 11) hx hb hts in_X0 hown hK hP 0 rfl rfl 2 (by decide) (hts _ q77) (fun _ h9 => h9) rfl dX0_cycle_138 ?_
    refine lv_aload_n hx hb dX0_cycle_141 rfl (lv_at hl 6 rfl) ?_
    refine lv_iload_n hx hb dX0_cycle_142 rfl (lv_at hl 5 rfl) ?_
    refine lv_ldc (v := 524288) hx hb hown (hts _ q188) dX0_cycle_143 ?_
    refine rd_has ⟨hx, hb, hml, hown, hts⟩ hK hP hR hl.1 (Nat.le_of_ble_eq_true rfl) dX0_cycle_145 ⟨Nat.zero_le _, Nat.zero_le _⟩ ?_
    refine lv_if_eq (tgt := 156) hx hb dX0_cycle_148 (by decide) (fun c_2 => ?_) (fun c_2 => ?_)
    · refine lv_aload_n hx hb dX0_cycle_156 rfl (lv_at hl 6 rfl) ?_
      refine va_get (D := (dC, dI)) (ci := 0) (v := .int (s_ir u)) (C := RX0) (T := TX0) (N := 11) hx hb hts in_X0 hown hK hP 0 rfl rfl 10 (by decide) (hts _ q85) (fun _ h9 => h9) rfl dX0_cycle_157 ?_
      refine lv_bipush (v := 9) hx hb dX0_cycle_160 (by decide) ?_
      refine lv_ishr hx hb dX0_cycle_162 ?_
      refine lv_bipush (v := 7) hx hb dX0_cycle_163 (by decide) ?_
      refine lv_iand hx hb dX0_cycle_165 ?_
      refine lv_iload_n hx hb dX0_cycle_166 rfl (lv_at hl 3 rfl) ?_
      refine va_iast hx hb hK hP hD hS 3 0 rfl rfl (in7 _) dX0_cycle_167 (fun H locs hP hD hS => ?_)
      have hP : va_P (dC, dI) vwCl (mc_W0 h0 qc qm qr d ct (put_rr u (upd (s_rr u) (((s_ir u) >>> ((9 : Int32) &&& 31)) &&& 7).toNatClampNeg bus))) H := hP
      have hD : va_D A (mc_W0 h0 qc qm qr d ct (put_rr u (upd (s_rr u) (((s_ir u) >>> ((9 : Int32) &&& 31)) &&& 7).toNatClampNeg bus))) := hD
      have ev : cy4 g bus u = put_rr u (upd (s_rr u) (((s_ir u) >>> ((9 : Int32) &&& 31)) &&& 7).toNatClampNeg bus) := by unfold cy4; rw [if_neg c_1, if_pos c_2]
      rw [ev] at kk
      exact kk _ _ hP hD hS
    · refine lv_bipush (v := 7) hx hb dX0_cycle_151 (by decide) ?_
      refine lv_goto (tgt := 166) hx hb dX0_cycle_153 (by decide) ?_
      refine lv_iload_n hx hb dX0_cycle_166 rfl (lv_at hl 3 rfl) ?_
      refine va_iast hx hb hK hP hD hS 3 0 rfl rfl (vp_in_nI (n := 7) (by decide) (by decide)) dX0_cycle_167 (fun H locs hP hD hS => ?_)
      have hP : va_P (dC, dI) vwCl (mc_W0 h0 qc qm qr d ct (put_rr u (upd (s_rr u) (7 : Int32).toNatClampNeg bus))) H := hP
      have hD : va_D A (mc_W0 h0 qc qm qr d ct (put_rr u (upd (s_rr u) (7 : Int32).toNatClampNeg bus))) := hD
      have ev : cy4 g bus u = put_rr u (upd (s_rr u) (7 : Int32).toNatClampNeg bus) := by unfold cy4; rw [if_neg c_1, if_neg c_2]
      rw [ev] at kk
      exact kk _ _ hP hD hS
set_option maxHeartbeats 4000000 in
set_option maxRecDepth 100000 in
theorem cy_168 {p : Program} {l : Launch} {e : Env} {R : Room} {s : State} {m : MethodId} {args : Array Value} {below : List Frame} {meth : Method} {c : Code} {Q : State → Prop} {dC : Nat → ClassId} {dI : Nat → Nat → Nat} {A : Nat → Prop} {h0 qc qm qr : Nat} {d : ClassId} {ct : Nat → Int32} {g ad bus fm np nx : Int32} {ls : Array Slot} (hx : p.tables.exec = Jvm.exec) (hb : c.code = cX0_cycle) (hml : c.maxLocals = 7) (hown : s.vm.findClass RX0 = some m.cls) (hts : ∀ w ∈ lw_all, w.before args s = true) (hR : 1 ≤ R.frames ∧ 22 ≤ R.locals) (hK : va_K (dC, dI) vwCl [(d, .int)] s) (hl : lv_has ls 7 [(6, .int nx), (5, .int np), (4, .int fm), (3, .int bus), (2, .int ad), (1, .int g), (0, .ref h0)]) {u : mc_S0} {H : Heap} {locs : List Loc} (hP : va_P (dC, dI) vwCl (mc_W0 h0 qc qm qr d ct u) H) (hD : va_D A (mc_W0 h0 qc qm qr d ct u)) (hS : va_S A s.heap H locs) (kk : ∀ (H : Heap) (locs : List Loc), va_P (dC, dI) vwCl (mc_W0 h0 qc qm qr d ct (cy5 g bus u)) H → va_D A (mc_W0 h0 qc qm qr d ct (cy5 g bus u)) → va_S A s.heap H locs → W p l e R s m args below meth c H locs 0 0 Q (F0 m 202 ls [])) : W p l e R s m args below meth c H locs 0 0 Q (F0 m 168 ls []) := by
  refine lv_aload_n hx hb dX0_cycle_168 rfl (lv_at hl 6 rfl) ?_
  refine lv_iload_n hx hb dX0_cycle_169 rfl (lv_at hl 5 rfl) ?_
  refine lv_sipush (v := 8192) hx hb dX0_cycle_170 (by decide) ?_
  refine rd_has ⟨hx, hb, hml, hown, hts⟩ hK hP hR hl.1 (Nat.le_of_ble_eq_true rfl) dX0_cycle_173 ⟨Nat.zero_le _, Nat.zero_le _⟩ ?_
  refine lv_if_eq (tgt := 202) hx hb dX0_cycle_176 (by decide) (fun c_1 => ?_) (fun c_1 => ?_)
  · have ev : cy5 g bus u = u := by unfold cy5; rw [if_pos c_1]
    rw [ev] at kk
    exact kk _ _ hP hD hS
  · refine lv_aload_n hx hb dX0_cycle_179 rfl (lv_at hl 6 rfl) ?_
    refine lv_iload_n hx hb dX0_cycle_180 rfl (lv_at hl 3 rfl) ?_
    refine lv_ldc (v := 32768) hx hb hown (hts _ q165) dX0_cycle_181 ?_
    refine lv_icmp_lt (tgt := 190) hx hb dX0_cycle_183 (by decide) (fun c_2 => ?_) (fun c_2 => ?_)
    · refine lv_iload_n hx hb dX0_cycle_190 rfl (lv_at hl 3 rfl) ?_
      refine lv_if_ne (tgt := 198) hx hb dX0_cycle_191 (by decide) (fun c_3 => ?_) (fun c_3 => ?_)
      · refine lv_iconst (v := 1) hx hb dX0_cycle_198 (by decide) ?_
        refine va_put (D := (dC, dI)) (ci := 0) (v := .int 1) (ty := .int) (C := RX0) (T := TX0) (N := 11) hx hb hts in_X0 tyX0 tyX0_ok nmX0 hown hK hP hD hS 0 rfl rfl 4 (by decide) (hts _ q79) (fun _ h9 => h9) rfl (by decide +kernel) rfl rfl (Nat.le_of_ble_eq_true rfl) dX0_cycle_199 (fun H locs hP hD hS => ?_)
        have hP : va_P (dC, dI) vwCl (mc_W0 h0 qc qm qr d ct (put_sg u 1)) H := hP
        have hD : va_D A (mc_W0 h0 qc qm qr d ct (put_sg u 1)) := hD
        have ev : cy5 g bus u = put_sg u 1 := by unfold cy5; rw [if_neg c_1, if_pos c_2, if_neg c_3]
        rw [ev] at kk
        exact kk _ _ hP hD hS
      · refine lv_iconst (v := 2) hx hb dX0_cycle_194 (by decide) ?_
        refine lv_goto (tgt := 199) hx hb dX0_cycle_195 (by decide) ?_
        refine va_put (D := (dC, dI)) (ci := 0) (v := .int 2) (ty := .int) (C := RX0) (T := TX0) (N := 11) hx hb hts in_X0 tyX0 tyX0_ok nmX0 hown hK hP hD hS 0 rfl rfl 4 (by decide) (hts _ q79) (fun _ h9 => h9) rfl (by decide +kernel) rfl rfl (Nat.le_of_ble_eq_true rfl) dX0_cycle_199 (fun H locs hP hD hS => ?_)
        have hP : va_P (dC, dI) vwCl (mc_W0 h0 qc qm qr d ct (put_sg u 2)) H := hP
        have hD : va_D A (mc_W0 h0 qc qm qr d ct (put_sg u 2)) := hD
        have ev : cy5 g bus u = put_sg u 2 := by unfold cy5; rw [if_neg c_1, if_pos c_2, if_pos c_3]
        rw [ev] at kk
        exact kk _ _ hP hD hS
    · refine lv_iconst (v := 4) hx hb dX0_cycle_186 (by decide) ?_
      refine lv_goto (tgt := 199) hx hb dX0_cycle_187 (by decide) ?_
      refine va_put (D := (dC, dI)) (ci := 0) (v := .int 4) (ty := .int) (C := RX0) (T := TX0) (N := 11) hx hb hts in_X0 tyX0 tyX0_ok nmX0 hown hK hP hD hS 0 rfl rfl 4 (by decide) (hts _ q79) (fun _ h9 => h9) rfl (by decide +kernel) rfl rfl (Nat.le_of_ble_eq_true rfl) dX0_cycle_199 (fun H locs hP hD hS => ?_)
      have hP : va_P (dC, dI) vwCl (mc_W0 h0 qc qm qr d ct (put_sg u 4)) H := hP
      have hD : va_D A (mc_W0 h0 qc qm qr d ct (put_sg u 4)) := hD
      have ev : cy5 g bus u = put_sg u 4 := by unfold cy5; rw [if_neg c_1, if_neg c_2]
      rw [ev] at kk
      exact kk _ _ hP hD hS
set_option maxHeartbeats 4000000 in
set_option maxRecDepth 100000 in
theorem cy_202 {p : Program} {l : Launch} {e : Env} {R : Room} {s : State} {m : MethodId} {args : Array Value} {below : List Frame} {meth : Method} {c : Code} {Q : State → Prop} {dC : Nat → ClassId} {dI : Nat → Nat → Nat} {A : Nat → Prop} {h0 qc qm qr : Nat} {d : ClassId} {ct : Nat → Int32} {g ad bus fm np nx : Int32} {ls : Array Slot} (hx : p.tables.exec = Jvm.exec) (hb : c.code = cX0_cycle) (hml : c.maxLocals = 7) (hown : s.vm.findClass RX0 = some m.cls) (hts : ∀ w ∈ lw_all, w.before args s = true) (hR : 1 ≤ R.frames ∧ 22 ≤ R.locals) (hK : va_K (dC, dI) vwCl [(d, .int)] s) (hl : lv_has ls 7 [(6, .int nx), (5, .int np), (4, .int fm), (3, .int bus), (2, .int ad), (1, .int g), (0, .ref h0)]) {u : mc_S0} {H : Heap} {locs : List Loc} (hP : va_P (dC, dI) vwCl (mc_W0 h0 qc qm qr d ct u) H) (hD : va_D A (mc_W0 h0 qc qm qr d ct u)) (hS : va_S A s.heap H locs) (kk : ∀ (H : Heap) (locs : List Loc), va_P (dC, dI) vwCl (mc_W0 h0 qc qm qr d ct (cy6 g np u)) H → va_D A (mc_W0 h0 qc qm qr d ct (cy6 g np u)) → va_S A s.heap H locs → W p l e R s m args below meth c H locs 0 0 Q (F0 m 219 ls [])) : W p l e R s m args below meth c H locs 0 0 Q (F0 m 202 ls []) := by
  refine lv_aload_n hx hb dX0_cycle_202 rfl (lv_at hl 6 rfl) ?_
  refine lv_iload_n hx hb dX0_cycle_203 rfl (lv_at hl 5 rfl) ?_
  refine lv_sipush (v := 2048) hx hb dX0_cycle_204 (by decide) ?_
  refine rd_has ⟨hx, hb, hml, hown, hts⟩ hK hP hR hl.1 (Nat.le_of_ble_eq_true rfl) dX0_cycle_207 ⟨Nat.zero_le _, Nat.zero_le _⟩ ?_
  refine lv_if_eq (tgt := 219) hx hb dX0_cycle_210 (by decide) (fun c_1 => ?_) (fun c_1 => ?_)
  · have ev : cy6 g np u = u := by unfold cy6; rw [if_pos c_1]
    rw [ev] at kk
    exact kk _ _ hP hD hS
  · refine lv_aload_n hx hb dX0_cycle_213 rfl (lv_at hl 6 rfl) ?_
    refine lv_iload hx hb dX0_cycle_214 (lv_at hl 1 rfl) ?_
    refine va_put (D := (dC, dI)) (ci := 0) (v := .int np) (ty := .int) (C := RX0) (T := TX0) (N := 11) hx hb hts in_X0 tyX0 tyX0_ok nmX0 hown hK hP hD hS 0 rfl rfl 3 (by decide) (hts _ q78) (fun _ h9 => h9) rfl (by decide +kernel) rfl rfl (Nat.le_of_ble_eq_true rfl) dX0_cycle_216 (fun H locs hP hD hS => ?_)
    have hP : va_P (dC, dI) vwCl (mc_W0 h0 qc qm qr d ct (put_pc u np)) H := hP
    have hD : va_D A (mc_W0 h0 qc qm qr d ct (put_pc u np)) := hD
    have ev : cy6 g np u = put_pc u np := by unfold cy6; rw [if_neg c_1]
    rw [ev] at kk
    exact kk _ _ hP hD hS
set_option maxHeartbeats 4000000 in
set_option maxRecDepth 100000 in
theorem cy_219 {p : Program} {l : Launch} {e : Env} {R : Room} {s : State} {m : MethodId} {args : Array Value} {below : List Frame} {meth : Method} {c : Code} {Q : State → Prop} {dC : Nat → ClassId} {dI : Nat → Nat → Nat} {A : Nat → Prop} {h0 qc qm qr : Nat} {d : ClassId} {ct : Nat → Int32} {g ad bus fm np nx : Int32} {ls : Array Slot} (hx : p.tables.exec = Jvm.exec) (hb : c.code = cX0_cycle) (hml : c.maxLocals = 7) (hown : s.vm.findClass RX0 = some m.cls) (hts : ∀ w ∈ lw_all, w.before args s = true) (hR : 1 ≤ R.frames ∧ 22 ≤ R.locals) (hK : va_K (dC, dI) vwCl [(d, .int)] s) (hl : lv_has ls 7 [(6, .int nx), (5, .int np), (4, .int fm), (3, .int bus), (2, .int ad), (1, .int g), (0, .ref h0)]) {u : mc_S0} {H : Heap} {locs : List Loc} (hP : va_P (dC, dI) vwCl (mc_W0 h0 qc qm qr d ct u) H) (hD : va_D A (mc_W0 h0 qc qm qr d ct u)) (hS : va_S A s.heap H locs) (kk : ∀ (H : Heap) (locs : List Loc), va_P (dC, dI) vwCl (mc_W0 h0 qc qm qr d ct (cy7 g bus u)) H → va_D A (mc_W0 h0 qc qm qr d ct (cy7 g bus u)) → va_S A s.heap H locs → W p l e R s m args below meth c H locs 0 0 Q (F0 m 235 ls [])) : W p l e R s m args below meth c H locs 0 0 Q (F0 m 219 ls []) := by
  refine lv_aload_n hx hb dX0_cycle_219 rfl (lv_at hl 6 rfl) ?_
  refine lv_iload_n hx hb dX0_cycle_220 rfl (lv_at hl 5 rfl) ?_
  refine lv_sipush (v := 1024) hx hb dX0_cycle_221 (by decide) ?_
  refine rd_has ⟨hx, hb, hml, hown, hts⟩ hK hP hR hl.1 (Nat.le_of_ble_eq_true rfl) dX0_cycle_224 ⟨Nat.zero_le _, Nat.zero_le _⟩ ?_
  refine lv_if_eq (tgt := 235) hx hb dX0_cycle_227 (by decide) (fun c_1 => ?_) (fun c_1 => ?_)
  · have ev : cy7 g bus u = u := by unfold cy7; rw [if_pos c_1]
    rw [ev] at kk
    exact kk _ _ hP hD hS
  · refine lv_aload_n hx hb dX0_cycle_230 rfl (lv_at hl 6 rfl) ?_
    refine lv_iload_n hx hb dX0_cycle_231 rfl (lv_at hl 3 rfl) ?_
    refine va_put (D := (dC, dI)) (ci := 0) (v := .int bus) (ty := .int) (C := RX0) (T := TX0) (N := 11) hx hb hts in_X0 tyX0 tyX0_ok nmX0 hown hK hP hD hS 0 rfl rfl 10 (by decide) (hts _ q85) (fun _ h9 => h9) rfl (by decide +kernel) rfl rfl (Nat.le_of_ble_eq_true rfl) dX0_cycle_232 (fun H locs hP hD hS => ?_)
    have hP : va_P (dC, dI) vwCl (mc_W0 h0 qc qm qr d ct (put_ir u bus)) H := hP
    have hD : va_D A (mc_W0 h0 qc qm qr d ct (put_ir u bus)) := hD
    have ev : cy7 g bus u = put_ir u bus := by unfold cy7; rw [if_neg c_1]
    rw [ev] at kk
    exact kk _ _ hP hD hS
set_option maxHeartbeats 4000000 in
set_option maxRecDepth 100000 in
theorem cy_235 {p : Program} {l : Launch} {e : Env} {R : Room} {s : State} {m : MethodId} {args : Array Value} {below : List Frame} {meth : Method} {c : Code} {Q : State → Prop} {dC : Nat → ClassId} {dI : Nat → Nat → Nat} {A : Nat → Prop} {h0 qc qm qr : Nat} {d : ClassId} {ct : Nat → Int32} {g ad bus fm np nx : Int32} {ls : Array Slot} (hx : p.tables.exec = Jvm.exec) (hb : c.code = cX0_cycle) (hml : c.maxLocals = 7) (hown : s.vm.findClass RX0 = some m.cls) (hts : ∀ w ∈ lw_all, w.before args s = true) (hR : 1 ≤ R.frames ∧ 22 ≤ R.locals) (hK : va_K (dC, dI) vwCl [(d, .int)] s) (hl : lv_has ls 7 [(6, .int nx), (5, .int np), (4, .int fm), (3, .int bus), (2, .int ad), (1, .int g), (0, .ref h0)]) {u : mc_S0} {H : Heap} {locs : List Loc} (hP : va_P (dC, dI) vwCl (mc_W0 h0 qc qm qr d ct u) H) (hD : va_D A (mc_W0 h0 qc qm qr d ct u)) (hS : va_S A s.heap H locs) (kk : ∀ (H : Heap) (locs : List Loc), va_P (dC, dI) vwCl (mc_W0 h0 qc qm qr d ct (cy8 g u)) H → va_D A (mc_W0 h0 qc qm qr d ct (cy8 g u)) → va_S A s.heap H locs → W p l e R s m args below meth c H locs 0 0 Q (F0 m 250 ls [])) : W p l e R s m args below meth c H locs 0 0 Q (F0 m 235 ls []) := by
  refine lv_aload_n hx hb dX0_cycle_235 rfl (lv_at hl 6 rfl) ?_
  refine lv_iload_n hx hb dX0_cycle_236 rfl (lv_at hl 5 rfl) ?_
  refine lv_ldc (v := 268435456) hx hb hown (hts _ q189) dX0_cycle_237 ?_
  refine rd_has ⟨hx, hb, hml, hown, hts⟩ hK hP hR hl.1 (Nat.le_of_ble_eq_true rfl) dX0_cycle_239 ⟨Nat.zero_le _, Nat.zero_le _⟩ ?_
  refine lv_if_eq (tgt := 250) hx hb dX0_cycle_242 (by decide) (fun c_1 => ?_) (fun c_1 => ?_)
  · have ev : cy8 g u = u := by unfold cy8; rw [if_pos c_1]
    rw [ev] at kk
    exact kk _ _ hP hD hS
  · refine lv_aload_n hx hb dX0_cycle_245 rfl (lv_at hl 6 rfl) ?_
    refine lv_iconst (v := 1) hx hb dX0_cycle_246 (by decide) ?_
    refine va_put (D := (dC, dI)) (ci := 0) (v := .int 1) (ty := .int) (C := RX0) (T := TX0) (N := 11) hx hb hts in_X0 tyX0 tyX0_ok nmX0 hown hK hP hD hS 0 rfl rfl 5 (by decide) (hts _ q80) (fun _ h9 => h9) rfl (by decide +kernel) rfl rfl (Nat.le_of_ble_eq_true rfl) dX0_cycle_247 (fun H locs hP hD hS => ?_)
    have hP : va_P (dC, dI) vwCl (mc_W0 h0 qc qm qr d ct (put_st u 1)) H := hP
    have hD : va_D A (mc_W0 h0 qc qm qr d ct (put_st u 1)) := hD
    have ev : cy8 g u = put_st u 1 := by unfold cy8; rw [if_neg c_1]
    rw [ev] at kk
    exact kk _ _ hP hD hS
set_option maxHeartbeats 4000000 in
set_option maxRecDepth 100000 in
theorem cy_250 {p : Program} {l : Launch} {e : Env} {R : Room} {s : State} {m : MethodId} {args : Array Value} {below : List Frame} {meth : Method} {c : Code} {Q : State → Prop} {dC : Nat → ClassId} {dI : Nat → Nat → Nat} {A : Nat → Prop} {h0 qc qm qr : Nat} {d : ClassId} {ct : Nat → Int32} {g ad bus fm np nx : Int32} {ls : Array Slot} (hx : p.tables.exec = Jvm.exec) (hb : c.code = cX0_cycle) (hml : c.maxLocals = 7) (hown : s.vm.findClass RX0 = some m.cls) (hts : ∀ w ∈ lw_all, w.before args s = true) (hR : 1 ≤ R.frames ∧ 22 ≤ R.locals) (hK : va_K (dC, dI) vwCl [(d, .int)] s) (hl : lv_has ls 7 [(6, .int nx), (5, .int np), (4, .int fm), (3, .int bus), (2, .int ad), (1, .int g), (0, .ref h0)]) {u : mc_S0} {H : Heap} {locs : List Loc} (hP : va_P (dC, dI) vwCl (mc_W0 h0 qc qm qr d ct u) H) (hD : va_D A (mc_W0 h0 qc qm qr d ct u)) (hS : va_S A s.heap H locs) (kk : ∀ (H : Heap) (locs : List Loc), va_P (dC, dI) vwCl (mc_W0 h0 qc qm qr d ct (cy9 g u)) H → va_D A (mc_W0 h0 qc qm qr d ct (cy9 g u)) → va_S A s.heap H locs → W p l e R s m args below meth c H locs 0 0 Q (F0 m 265 ls [])) : W p l e R s m args below meth c H locs 0 0 Q (F0 m 250 ls []) := by
  refine lv_aload_n hx hb dX0_cycle_250 rfl (lv_at hl 6 rfl) ?_
  refine lv_iload_n hx hb dX0_cycle_251 rfl (lv_at hl 5 rfl) ?_
  refine lv_ldc (v := 536870912) hx hb hown (hts _ q190) dX0_cycle_252 ?_
  refine rd_has ⟨hx, hb, hml, hown, hts⟩ hK hP hR hl.1 (Nat.le_of_ble_eq_true rfl) dX0_cycle_254 ⟨Nat.zero_le _, Nat.zero_le _⟩ ?_
  refine lv_if_eq (tgt := 265) hx hb dX0_cycle_257 (by decide) (fun c_1 => ?_) (fun c_1 => ?_)
  · have ev : cy9 g u = u := by unfold cy9; rw [if_pos c_1]
    rw [ev] at kk
    exact kk _ _ hP hD hS
  · refine lv_aload_n hx hb dX0_cycle_260 rfl (lv_at hl 6 rfl) ?_
    refine lv_iconst (v := 2) hx hb dX0_cycle_261 (by decide) ?_
    refine va_put (D := (dC, dI)) (ci := 0) (v := .int 2) (ty := .int) (C := RX0) (T := TX0) (N := 11) hx hb hts in_X0 tyX0 tyX0_ok nmX0 hown hK hP hD hS 0 rfl rfl 5 (by decide) (hts _ q80) (fun _ h9 => h9) rfl (by decide +kernel) rfl rfl (Nat.le_of_ble_eq_true rfl) dX0_cycle_262 (fun H locs hP hD hS => ?_)
    have hP : va_P (dC, dI) vwCl (mc_W0 h0 qc qm qr d ct (put_st u 2)) H := hP
    have hD : va_D A (mc_W0 h0 qc qm qr d ct (put_st u 2)) := hD
    have ev : cy9 g u = put_st u 2 := by unfold cy9; rw [if_neg c_1]
    rw [ev] at kk
    exact kk _ _ hP hD hS
set_option maxHeartbeats 4000000 in
set_option maxRecDepth 100000 in
theorem met_cycle (l : Launch) (dC : Nat → ClassId) (dI : Nat → Nat → Nat) (h0 qc qm qr : Nat) (d : ClassId) (ct : Nat → Int32) (sz : Nat) (u : mc_S0) (hs : vp_in (s_state u) 64) : Met l yX0_cycle (ws_ yX0_cycle cX0_cycle 7 none) ({ frames := 4, cells := 0, slots := 0, locals := 90 }) (va_Pc [.ref h0] (mc_P0 dC dI h0 qc qm qr d ct sz u)) (va_Qv (fun u' : mc_S0 => u' = cyc ct u) (mc_B0 dC dI (va_A (mc_W0 h0 qc qm qr d ct u) sz) h0 qc qm qr d ct) (va_A (mc_W0 h0 qc qm qr d ct u) sz)) 0 0 (va_A (mc_W0 h0 qc qm qr d ct u) sz) := by
  refine Met.ofW (cc := cX0_cycle) (maxL := 7) (ret := none) (by decide) rfl ?_
  intro p e s m args below meth c s₁ B hml hv
  obtain ⟨rfl, hsz, hP, hK, hD0⟩ := hv
  have hx := B.exec
  have hb := B.bytes
  have hr := B.returns
  have hts := atoms_spec (ws := (ws_ yX0_cycle cX0_cycle 7 none)) B.pre
  have hts : ∀ w ∈ lw_all, w.before _ s = true := fun w h => hts w (List.mem_cons_of_mem _ h)
  have hown : s.vm.findClass RX0 = some m.cls := findClass_of_methodNamed B.named
  have hlocks := B.notSynchronized
  subst hsz
  have hD := hD0.self (sz := s.heap.size)
  generalize hAe : va_A (mc_W0 h0 qc qm qr d ct u) s.heap.size = A at hD ⊢
  have hA : ∀ q : Nat, s.heap.size ≤ q → A q := fun q h => by rw [← hAe]; exact Or.inr h
  have hS : va_S A s.heap s.heap [] := va_S.rf
  have hP : va_P (dC, dI) vwCl (mc_W0 h0 qc qm qr d ct u) s.heap := hP
  have hl := lv_entry ([.ref h0]) (n := 7) (Nat.le_of_ble_eq_true rfl)
  rw [lg_entry_eq]
  generalize (lg_sl ([.ref h0]) ++ List.replicate (7 - (lg_sl ([.ref h0])).length) Slot.unset).toArray = ls at hl ⊢
  have hl : lv_has ls 7 [(0, .ref h0)] := hl
  refine lv_aload_n hx hb dX0_cycle_0 rfl (lv_at hl 0 rfl) ?_
  refine va_get (D := (dC, dI)) (ci := 0) (v := .ref qc) (C := RX0) (T := TX0) (N := 11) hx hb hts in_X0 hown hK hP 0 rfl rfl 0 (by decide) (hts _ q75) (fun _ h9 => h9) rfl dX0_cycle_1 ?_
  refine lv_aload_n hx hb dX0_cycle_4 rfl (lv_at hl 0 rfl) ?_
  refine va_get (D := (dC, dI)) (ci := 0) (v := .int (s_state u)) (C := RX0) (T := TX0) (N := 11) hx hb hts in_X0 hown hK hP 0 rfl rfl 7 (by decide) (hts _ q82) (fun _ h9 => h9) rfl dX0_cycle_5 ?_
  refine va_iald hx hb hK hP 1 0 rfl rfl hs dX0_cycle_8 ?_
  refine lv_istore_n (lv' := [(1, .int (ct (s_state u).toNatClampNeg)), (0, .ref h0)]) hx hb dX0_cycle_9 rfl hl (by decide) rfl (fun ls hl => ?_)
  refine lv_aload_n hx hb dX0_cycle_10 rfl (lv_at hl 1 rfl) ?_
  refine lv_iload_n hx hb dX0_cycle_11 rfl (lv_at hl 0 rfl) ?_
  refine rd_adderOutput ⟨hx, hb, hml, hown, hts⟩ hK hP ⟨Nat.le_of_ble_eq_true rfl, Nat.le_of_ble_eq_true rfl⟩ hl.1 (Nat.le_of_ble_eq_true rfl) dX0_cycle_12 ⟨Nat.zero_le _, Nat.zero_le _⟩ ?_
  refine lv_istore_n (lv' := [(2, .int (addF (ct (s_state u).toNatClampNeg) u)), (1, .int (ct (s_state u).toNatClampNeg)), (0, .ref h0)]) hx hb dX0_cycle_15 rfl hl (by decide) rfl (fun ls hl => ?_)
  refine lv_aload_n hx hb dX0_cycle_16 rfl (lv_at hl 2 rfl) ?_
  refine lv_iload_n hx hb dX0_cycle_17 rfl (lv_at hl 1 rfl) ?_
  refine lv_iload_n hx hb dX0_cycle_18 rfl (lv_at hl 0 rfl) ?_
  refine rd_busValue ⟨hx, hb, hml, hown, hts⟩ hK hP ⟨Nat.le_of_ble_eq_true rfl, Nat.le_of_ble_eq_true rfl⟩ hl.1 (Nat.le_of_ble_eq_true rfl) dX0_cycle_19 ⟨Nat.zero_le _, Nat.zero_le _⟩ ?_
  refine lv_istore_n (lv' := [(3, .int (busF (ct (s_state u).toNatClampNeg) (addF (ct (s_state u).toNatClampNeg) u) u)), (2, .int (addF (ct (s_state u).toNatClampNeg) u)), (1, .int (ct (s_state u).toNatClampNeg)), (0, .ref h0)]) hx hb dX0_cycle_22 rfl hl (by decide) rfl (fun ls hl => ?_)
  refine lv_aload_n hx hb dX0_cycle_23 rfl (lv_at hl 3 rfl) ?_
  refine va_get (D := (dC, dI)) (ci := 0) (v := .ref qm) (C := RX0) (T := TX0) (N := 11) hx hb hts in_X0 hown hK hP 0 rfl rfl 1 (by decide) (hts _ q76) (fun _ h9 => h9) rfl dX0_cycle_24 ?_
  refine lv_aload_n hx hb dX0_cycle_27 rfl (lv_at hl 3 rfl) ?_
  refine va_get (D := (dC, dI)) (ci := 0) (v := .int (s_mar u)) (C := RX0) (T := TX0) (N := 11) hx hb hts in_X0 hown hK hP 0 rfl rfl 8 (by decide) (hts _ q83) (fun _ h9 => h9) rfl dX0_cycle_28 ?_
  refine lv_bipush (v := 63) hx hb dX0_cycle_31 (by decide) ?_
  refine lv_iand hx hb dX0_cycle_33 ?_
  refine va_iald hx hb hK hP 2 0 rfl rfl (in63 _) dX0_cycle_34 ?_
  refine lv_istore (lv' := [(4, .int (s_mm u ((s_mar u) &&& 63).toNatClampNeg)), (3, .int (busF (ct (s_state u).toNatClampNeg) (addF (ct (s_state u).toNatClampNeg) u) u)), (2, .int (addF (ct (s_state u).toNatClampNeg) u)), (1, .int (ct (s_state u).toNatClampNeg)), (0, .ref h0)]) hx hb dX0_cycle_35 hl (by decide) rfl (fun ls hl => ?_)
  refine lv_aload_n hx hb dX0_cycle_37 rfl (lv_at hl 4 rfl) ?_
  refine lv_iload_n hx hb dX0_cycle_38 rfl (lv_at hl 3 rfl) ?_
  refine lv_iload_n hx hb dX0_cycle_39 rfl (lv_at hl 1 rfl) ?_
  refine lv_iload_n hx hb dX0_cycle_40 rfl (lv_at hl 2 rfl) ?_
  refine rd_pcInput ⟨hx, hb, hml, hown, hts⟩ hK hP ⟨Nat.le_of_ble_eq_true rfl, Nat.le_of_ble_eq_true rfl⟩ hl.1 (Nat.le_of_ble_eq_true rfl) dX0_cycle_41 ⟨Nat.zero_le _, Nat.zero_le _⟩ ?_
  refine lv_istore (lv' := [(5, .int (pciF (ct (s_state u).toNatClampNeg) (busF (ct (s_state u).toNatClampNeg) (addF (ct (s_state u).toNatClampNeg) u) u) (addF (ct (s_state u).toNatClampNeg) u) u)), (4, .int (s_mm u ((s_mar u) &&& 63).toNatClampNeg)), (3, .int (busF (ct (s_state u).toNatClampNeg) (addF (ct (s_state u).toNatClampNeg) u) u)), (2, .int (addF (ct (s_state u).toNatClampNeg) u)), (1, .int (ct (s_state u).toNatClampNeg)), (0, .ref h0)]) hx hb dX0_cycle_44 hl (by decide) rfl (fun ls hl => ?_)
  refine lv_aload_n hx hb dX0_cycle_46 rfl (lv_at hl 5 rfl) ?_
  refine lv_iload_n hx hb dX0_cycle_47 rfl (lv_at hl 4 rfl) ?_
  refine rd_nextState ⟨hx, hb, hml, hown, hts⟩ hK hP ⟨Nat.le_of_ble_eq_true rfl, Nat.le_of_ble_eq_true rfl⟩ hl.1 (Nat.le_of_ble_eq_true rfl) dX0_cycle_48 ⟨Nat.zero_le _, Nat.zero_le _⟩ ?_
  refine lv_istore (lv' := [(6, .int (nextF (ct (s_state u).toNatClampNeg) u)), (5, .int (pciF (ct (s_state u).toNatClampNeg) (busF (ct (s_state u).toNatClampNeg) (addF (ct (s_state u).toNatClampNeg) u) u) (addF (ct (s_state u).toNatClampNeg) u) u)), (4, .int (s_mm u ((s_mar u) &&& 63).toNatClampNeg)), (3, .int (busF (ct (s_state u).toNatClampNeg) (addF (ct (s_state u).toNatClampNeg) u) u)), (2, .int (addF (ct (s_state u).toNatClampNeg) u)), (1, .int (ct (s_state u).toNatClampNeg)), (0, .ref h0)]) hx hb dX0_cycle_51 hl (by decide) rfl (fun ls hl => ?_)
  have hl : lv_has ls 7 [(6, .int (nextF (ct (s_state u).toNatClampNeg) u)), (5, .int (pciF (ct (s_state u).toNatClampNeg) (busF (ct (s_state u).toNatClampNeg) (addF (ct (s_state u).toNatClampNeg) u) u) (addF (ct (s_state u).toNatClampNeg) u) u)), (4, .int (s_mm u (s_mar u &&& 63).toNatClampNeg)), (3, .int (busF (ct (s_state u).toNatClampNeg) (addF (ct (s_state u).toNatClampNeg) u) u)), (2, .int (addF (ct (s_state u).toNatClampNeg) u)), (1, .int (ct (s_state u).toNatClampNeg)), (0, .ref h0)] := lv_sub hl [0, 1, 2, 3, 4, 5, 6] rfl
  refine cy_53 hx hb hml hown hts ⟨Nat.le_of_ble_eq_true rfl, Nat.le_of_ble_eq_true rfl⟩ hK hl hP hD hS (fun H locs hP hD hS => ?_)
  refine cy_79 hx hb hml hown hts ⟨Nat.le_of_ble_eq_true rfl, Nat.le_of_ble_eq_true rfl⟩ hK hl hP hD hS (fun H locs hP hD hS => ?_)
  refine cy_95 hx hb hml hown hts ⟨Nat.le_of_ble_eq_true rfl, Nat.le_of_ble_eq_true rfl⟩ hK hl hP hD hS (fun H locs hP hD hS => ?_)
  refine cy_126 hx hb hml hown hts ⟨Nat.le_of_ble_eq_true rfl, Nat.le_of_ble_eq_true rfl⟩ hK hl hP hD hS (fun H locs hP hD hS => ?_)
  refine cy_168 hx hb hml hown hts ⟨Nat.le_of_ble_eq_true rfl, Nat.le_of_ble_eq_true rfl⟩ hK hl hP hD hS (fun H locs hP hD hS => ?_)
  refine cy_202 hx hb hml hown hts ⟨Nat.le_of_ble_eq_true rfl, Nat.le_of_ble_eq_true rfl⟩ hK hl hP hD hS (fun H locs hP hD hS => ?_)
  refine cy_219 hx hb hml hown hts ⟨Nat.le_of_ble_eq_true rfl, Nat.le_of_ble_eq_true rfl⟩ hK hl hP hD hS (fun H locs hP hD hS => ?_)
  refine cy_235 hx hb hml hown hts ⟨Nat.le_of_ble_eq_true rfl, Nat.le_of_ble_eq_true rfl⟩ hK hl hP hD hS (fun H locs hP hD hS => ?_)
  refine cy_250 hx hb hml hown hts ⟨Nat.le_of_ble_eq_true rfl, Nat.le_of_ble_eq_true rfl⟩ hK hl hP hD hS (fun H locs hP hD hS => ?_)
  refine lv_aload_n hx hb dX0_cycle_265 rfl (lv_at hl 6 rfl) ?_
  refine lv_iload hx hb dX0_cycle_266 (lv_at hl 0 rfl) ?_
  refine va_put (D := (dC, dI)) (ci := 0) (v := .int (nextF (ct (s_state u).toNatClampNeg) u)) (ty := .int) (C := RX0) (T := TX0) (N := 11) hx hb hts in_X0 tyX0 tyX0_ok nmX0 hown hK hP hD hS 0 rfl rfl 7 (by decide) (hts _ q82) (fun _ h9 => h9) rfl (by decide +kernel) rfl rfl (Nat.le_of_ble_eq_true rfl) dX0_cycle_268 (fun H locs hP hD hS => ?_)
  have hP : va_P (dC, dI) vwCl (mc_W0 h0 qc qm qr d ct (put_state (cy9 (ct (s_state u).toNatClampNeg) (cy8 (ct (s_state u).toNatClampNeg) (cy7 (ct (s_state u).toNatClampNeg) (busF (ct (s_state u).toNatClampNeg) (addF (ct (s_state u).toNatClampNeg) u) u) (cy6 (ct (s_state u).toNatClampNeg) (pciF (ct (s_state u).toNatClampNeg) (busF (ct (s_state u).toNatClampNeg) (addF (ct (s_state u).toNatClampNeg) u) u) (addF (ct (s_state u).toNatClampNeg) u) u) (cy5 (ct (s_state u).toNatClampNeg) (busF (ct (s_state u).toNatClampNeg) (addF (ct (s_state u).toNatClampNeg) u) u) (cy4 (ct (s_state u).toNatClampNeg) (busF (ct (s_state u).toNatClampNeg) (addF (ct (s_state u).toNatClampNeg) u) u) (cy3 (ct (s_state u).toNatClampNeg) (busF (ct (s_state u).toNatClampNeg) (addF (ct (s_state u).toNatClampNeg) u) u) (s_mm u (s_mar u &&& 63).toNatClampNeg) (cy2 (ct (s_state u).toNatClampNeg) (busF (ct (s_state u).toNatClampNeg) (addF (ct (s_state u).toNatClampNeg) u) u) (cy1 (ct (s_state u).toNatClampNeg) u))))))))) (nextF (ct (s_state u).toNatClampNeg) u))) H := hP
  have hD : va_D A (mc_W0 h0 qc qm qr d ct (put_state (cy9 (ct (s_state u).toNatClampNeg) (cy8 (ct (s_state u).toNatClampNeg) (cy7 (ct (s_state u).toNatClampNeg) (busF (ct (s_state u).toNatClampNeg) (addF (ct (s_state u).toNatClampNeg) u) u) (cy6 (ct (s_state u).toNatClampNeg) (pciF (ct (s_state u).toNatClampNeg) (busF (ct (s_state u).toNatClampNeg) (addF (ct (s_state u).toNatClampNeg) u) u) (addF (ct (s_state u).toNatClampNeg) u) u) (cy5 (ct (s_state u).toNatClampNeg) (busF (ct (s_state u).toNatClampNeg) (addF (ct (s_state u).toNatClampNeg) u) u) (cy4 (ct (s_state u).toNatClampNeg) (busF (ct (s_state u).toNatClampNeg) (addF (ct (s_state u).toNatClampNeg) u) u) (cy3 (ct (s_state u).toNatClampNeg) (busF (ct (s_state u).toNatClampNeg) (addF (ct (s_state u).toNatClampNeg) u) u) (s_mm u (s_mar u &&& 63).toNatClampNeg) (cy2 (ct (s_state u).toNatClampNeg) (busF (ct (s_state u).toNatClampNeg) (addF (ct (s_state u).toNatClampNeg) u) u) (cy1 (ct (s_state u).toNatClampNeg) u))))))))) (nextF (ct (s_state u).toNatClampNeg) u))) := hD
  exact W.vret hx hb hr (fun t ht hW => ⟨⟨(put_state (cy9 (ct (s_state u).toNatClampNeg) (cy8 (ct (s_state u).toNatClampNeg) (cy7 (ct (s_state u).toNatClampNeg) (busF (ct (s_state u).toNatClampNeg) (addF (ct (s_state u).toNatClampNeg) u) u) (cy6 (ct (s_state u).toNatClampNeg) (pciF (ct (s_state u).toNatClampNeg) (busF (ct (s_state u).toNatClampNeg) (addF (ct (s_state u).toNatClampNeg) u) u) (addF (ct (s_state u).toNatClampNeg) u) u) (cy5 (ct (s_state u).toNatClampNeg) (busF (ct (s_state u).toNatClampNeg) (addF (ct (s_state u).toNatClampNeg) u) u) (cy4 (ct (s_state u).toNatClampNeg) (busF (ct (s_state u).toNatClampNeg) (addF (ct (s_state u).toNatClampNeg) u) u) (cy3 (ct (s_state u).toNatClampNeg) (busF (ct (s_state u).toNatClampNeg) (addF (ct (s_state u).toNatClampNeg) u) u) (s_mm u (s_mar u &&& 63).toNatClampNeg) (cy2 (ct (s_state u).toNatClampNeg) (busF (ct (s_state u).toNatClampNeg) (addF (ct (s_state u).toNatClampNeg) u) u) (cy1 (ct (s_state u).toNatClampNeg) u))))))))) (nextF (ct (s_state u).toNatClampNeg) u)), rfl, rfl, by rw [ht]; exact hP, va_K.moved hW.alike hK, hD⟩, hS.F ht⟩) hS.2.2 dX0_cycle_271
theorem wr_cycle {p : Program} {l : Launch} {e : Env} {R : Room} {s : State} {m : MethodId} {args : Array Value} {below : List Frame} {meth : Method} {c : Code} {H : Heap} {locs : List Loc} {cells slots : Nat} {Q : State → Prop} {cc : ByteArray} {pc nL : Nat} {ls : Array Slot} {rest : List Value} {dC : Nat → ClassId} {dI : Nat → Nat → Nat} {h0 qc qm qr : Nat} {d : ClassId} {ct : Nat → Int32} {u : mc_S0} {A : Nat → Prop} {H0 : Heap} (S : CallFix p m c cc nL s args lw_all RX0) (hA : ∀ q : Nat, H0.size ≤ q → A q) (hs : vp_in (s_state u) 64) (hK : va_K (dC, dI) vwCl [(d, .int)] s) (hP : va_P (dC, dI) vwCl (mc_W0 h0 qc qm qr d ct u) H) (hD : va_D A (mc_W0 h0 qc qm qr d ct u)) (hS : va_S A H0 H locs) (hR : 5 ≤ R.frames ∧ 116 ≤ R.locals) (hsz : ls.size = nL) (hrest : (rest.map fun v => v.category).sum ≤ 8) (hdg : decode cc pc = .ok (.invokevirtual 71, 3)) (hf : cells ≤ R.cells ∧ slots ≤ R.slots) (kk : ∀ (H : Heap) (locs : List Loc), va_P (dC, dI) vwCl (mc_W0 h0 qc qm qr d ct (cyc ct u)) H → va_D A (mc_W0 h0 qc qm qr d ct (cyc ct u)) → va_S A H0 H locs → W p l e R s m args below meth c H locs cells slots Q (F0 m (pc + 3) ls rest)) : W p l e R s m args below meth c H locs cells slots Q (F0 m pc ls (.ref h0 :: rest)) := by
  have hFc := va_free (wc := mc_W0 h0 qc qm qr d ct u) hD hS hA [0, 1, 2, 3] rfl
  refine va_callv (va_runV (As := []) (rest := rest) S (met_cycle l dC dI h0 qc qm qr d ct H.size u hs) (cwV 0 S.2.2.2.2 (lw_V q135 q137 qs4 q23 q138) rfl rfl rfl (by decide +kernel) hR) ⟨fun a U g mk q => ⟨q.1, q.2.1, q.2.2.1, va_K.moved (u := U) (U := U.calling g mk a) (Vm.Alike.refl U.vm) q.2.2.2.1, q.2.2.2.2⟩, va_recv hK hP (ci := 0) (q0 := 0) rfl rfl, fun U hU hW => ⟨rfl, by rw [hU], by rw [hU]; exact hP, va_K.moved hW.alike hK, hD.weaken (fun _ _ _ _ => trivial)⟩⟩ rfl rfl hsz rfl (lv_room hrest) hdg hf) hS (fun q _ h => hFc q h) hFc (fun u1 t H1 locs1 ht hvm hw hB hz1 hk1 hS => ?_)
  obtain ⟨hP1, hK1, hD1⟩ := hB
  rw [ht] at hP1
  have hw : u1 = cyc ct u := hw
  subst hw
  obtain ⟨hP, hD⟩ := va_join (wr := []) (w1 := mc_W0 h0 qc qm qr d ct (cyc ct u)) hP hD [0, 1, 2, 3] [] rfl rfl (by decide) (by decide) hk1 hFc hP1 hD1
  exact kk H1 locs1 hP hD hS
end
section
/-! MicroLc3: what is seen from outside, read -/
set_option maxHeartbeats 4000000 in
set_option maxRecDepth 100000 in
theorem met_peek (l : Launch) (dC : Nat → ClassId) (dI : Nat → Nat → Nat) (h0 qc qm qr : Nat) (d : ClassId) (ct : Nat → Int32) (u : mc_S0) (a : Int32) : Met l yX0_peek (ws_ yX0_peek cX0_peek 2 (some .int)) ({ frames := 0, cells := 0, slots := 0, locals := 0 }) (va_Pc [.ref h0, .int a] (fun U => va_P (dC, dI) vwCl (mc_W0 h0 qc qm qr d ct u) U.heap ∧ va_K (dC, dI) vwCl [(d, .int)] U)) (vp_Si (fun r => r = peekF u a)) 0 0 (fun _ => False) := by
  refine Met.ofW (cc := cX0_peek) (maxL := 2) (ret := (some .int)) (by decide) rfl ?_
  intro p e s m args below meth c s₁ B hml hv
  obtain ⟨rfl, hP, hK⟩ := hv
  have hx := B.exec
  have hb := B.bytes
  have hr := B.returns
  have hts := atoms_spec (ws := (ws_ yX0_peek cX0_peek 2 (some .int))) B.pre
  have hts : ∀ w ∈ lw_all, w.before _ s = true := fun w h => hts w (List.mem_cons_of_mem _ h)
  have hown : s.vm.findClass RX0 = some m.cls := findClass_of_methodNamed B.named
  have hlocks := B.notSynchronized
  have hP : va_P (dC, dI) vwCl (mc_W0 h0 qc qm qr d ct u) s.heap := hP
  have hl := lv_entry ([.ref h0, .int a]) (n := 2) (Nat.le_of_ble_eq_true rfl)
  rw [lg_entry_eq]
  generalize (lg_sl ([.ref h0, .int a]) ++ List.replicate (2 - (lg_sl ([.ref h0, .int a])).length) Slot.unset).toArray = ls at hl ⊢
  have hl : lv_has ls 2 [(0, .ref h0), (1, .int a)] := hl
  refine lv_iload_n hx hb dX0_peek_0 rfl (lv_at hl 1 rfl) ?_
  refine lv_if_lt (tgt := 10) hx hb dX0_peek_1 (by decide) (fun c_1 => ?_) (fun c_1 => ?_)
  · refine lv_iconst (v := (-1)) hx hb dX0_peek_10 (by decide) ?_
    refine lv_goto (tgt := 20) hx hb dX0_peek_11 (by decide) ?_
    exact W.iret (v := (-1)) hx hb hr (fun t ht hW => ⟨(-1), rfl, (by show (-1) = peekF u a; unfold peekF; rw [if_pos c_1]), ht⟩) (fun q h => by cases h) dX0_peek_20
  · refine lv_iload_n hx hb dX0_peek_4 rfl (lv_at hl 1 rfl) ?_
    refine lv_bipush (v := 63) hx hb dX0_peek_5 (by decide) ?_
    refine lv_icmp_le (tgt := 14) hx hb dX0_peek_7 (by decide) (fun c_2 => ?_) (fun c_2 => ?_)
    · refine lv_aload_n hx hb dX0_peek_14 rfl (lv_at hl 0 rfl) ?_
      refine va_get (D := (dC, dI)) (ci := 0) (v := .ref qm) (C := RX0) (T := TX0) (N := 11) hx hb hts in_X0 hown hK hP 0 rfl rfl 1 (by decide) (hts _ q76) (fun _ h9 => h9) rfl dX0_peek_15 ?_
      refine lv_iload_n hx hb dX0_peek_18 rfl (lv_at hl 1 rfl) ?_
      refine va_iald hx hb hK hP 2 0 rfl rfl (in_le (n := 63) (by decide) c_1 c_2) dX0_peek_19 ?_
      exact W.iret (v := s_mm u a.toNatClampNeg) hx hb hr (fun t ht hW => ⟨s_mm u a.toNatClampNeg, rfl, (by show s_mm u a.toNatClampNeg = peekF u a; unfold peekF; rw [if_neg c_1, if_pos c_2]), ht⟩) (fun q h => by cases h) dX0_peek_20
    · refine lv_iconst (v := (-1)) hx hb dX0_peek_10 (by decide) ?_
      refine lv_goto (tgt := 20) hx hb dX0_peek_11 (by decide) ?_
      exact W.iret (v := (-1)) hx hb hr (fun t ht hW => ⟨(-1), rfl, (by show (-1) = peekF u a; unfold peekF; rw [if_neg c_1, if_neg c_2]), ht⟩) (fun q h => by cases h) dX0_peek_20
set_option maxHeartbeats 4000000 in
set_option maxRecDepth 100000 in
theorem met_register (l : Launch) (dC : Nat → ClassId) (dI : Nat → Nat → Nat) (h0 qc qm qr : Nat) (d : ClassId) (ct : Nat → Int32) (u : mc_S0) (a : Int32) : Met l yX0_register (ws_ yX0_register cX0_register 2 (some .int)) ({ frames := 0, cells := 0, slots := 0, locals := 0 }) (va_Pc [.ref h0, .int a] (fun U => va_P (dC, dI) vwCl (mc_W0 h0 qc qm qr d ct u) U.heap ∧ va_K (dC, dI) vwCl [(d, .int)] U)) (vp_Si (fun r => r = regF u a)) 0 0 (fun _ => False) := by
  refine Met.ofW (cc := cX0_register) (maxL := 2) (ret := (some .int)) (by decide) rfl ?_
  intro p e s m args below meth c s₁ B hml hv
  obtain ⟨rfl, hP, hK⟩ := hv
  have hx := B.exec
  have hb := B.bytes
  have hr := B.returns
  have hts := atoms_spec (ws := (ws_ yX0_register cX0_register 2 (some .int))) B.pre
  have hts : ∀ w ∈ lw_all, w.before _ s = true := fun w h => hts w (List.mem_cons_of_mem _ h)
  have hown : s.vm.findClass RX0 = some m.cls := findClass_of_methodNamed B.named
  have hlocks := B.notSynchronized
  have hP : va_P (dC, dI) vwCl (mc_W0 h0 qc qm qr d ct u) s.heap := hP
  have hl := lv_entry ([.ref h0, .int a]) (n := 2) (Nat.le_of_ble_eq_true rfl)
  rw [lg_entry_eq]
  generalize (lg_sl ([.ref h0, .int a]) ++ List.replicate (2 - (lg_sl ([.ref h0, .int a])).length) Slot.unset).toArray = ls at hl ⊢
  have hl : lv_has ls 2 [(0, .ref h0), (1, .int a)] := hl
  refine lv_iload_n hx hb dX0_register_0 rfl (lv_at hl 1 rfl) ?_
  refine lv_if_lt (tgt := 10) hx hb dX0_register_1 (by decide) (fun c_1 => ?_) (fun c_1 => ?_)
  · refine lv_iconst (v := (-1)) hx hb dX0_register_10 (by decide) ?_
    refine lv_goto (tgt := 20) hx hb dX0_register_11 (by decide) ?_
    exact W.iret (v := (-1)) hx hb hr (fun t ht hW => ⟨(-1), rfl, (by show (-1) = regF u a; unfold regF; rw [if_pos c_1]), ht⟩) (fun q h => by cases h) dX0_register_20
  · refine lv_iload_n hx hb dX0_register_4 rfl (lv_at hl 1 rfl) ?_
    refine lv_bipush (v := 7) hx hb dX0_register_5 (by decide) ?_
    refine lv_icmp_le (tgt := 14) hx hb dX0_register_7 (by decide) (fun c_2 => ?_) (fun c_2 => ?_)
    · refine lv_aload_n hx hb dX0_register_14 rfl (lv_at hl 0 rfl) ?_
      refine va_get (D := (dC, dI)) (ci := 0) (v := .ref qr) (C := RX0) (T := TX0) (N := 11) hx hb hts in_X0 hown hK hP 0 rfl rfl 2 (by decide) (hts _ q77) (fun _ h9 => h9) rfl dX0_register_15 ?_
      refine lv_iload_n hx hb dX0_register_18 rfl (lv_at hl 1 rfl) ?_
      refine va_iald hx hb hK hP 3 0 rfl rfl (in_le (n := 7) (by decide) c_1 c_2) dX0_register_19 ?_
      exact W.iret (v := s_rr u a.toNatClampNeg) hx hb hr (fun t ht hW => ⟨s_rr u a.toNatClampNeg, rfl, (by show s_rr u a.toNatClampNeg = regF u a; unfold regF; rw [if_neg c_1, if_pos c_2]), ht⟩) (fun q h => by cases h) dX0_register_20
    · refine lv_iconst (v := (-1)) hx hb dX0_register_10 (by decide) ?_
      refine lv_goto (tgt := 20) hx hb dX0_register_11 (by decide) ?_
      exact W.iret (v := (-1)) hx hb hr (fun t ht hW => ⟨(-1), rfl, (by show (-1) = regF u a; unfold regF; rw [if_neg c_1, if_neg c_2]), ht⟩) (fun q h => by cases h) dX0_register_20
set_option maxHeartbeats 4000000 in
set_option maxRecDepth 100000 in
theorem met_place (l : Launch) (dC : Nat → ClassId) (dI : Nat → Nat → Nat) (h0 qc qm qr : Nat) (d : ClassId) (ct : Nat → Int32) (u : mc_S0) : Met l yX0_place (ws_ yX0_place cX0_place 1 (some .int)) ({ frames := 0, cells := 0, slots := 0, locals := 0 }) (va_Pc [.ref h0] (fun U => va_P (dC, dI) vwCl (mc_W0 h0 qc qm qr d ct u) U.heap ∧ va_K (dC, dI) vwCl [(d, .int)] U)) (vp_Si (fun r => r = s_pc u)) 0 0 (fun _ => False) := by
  refine Met.ofW (cc := cX0_place) (maxL := 1) (ret := (some .int)) (by decide) rfl ?_
  intro p e s m args below meth c s₁ B hml hv
  obtain ⟨rfl, hP, hK⟩ := hv
  have hx := B.exec
  have hb := B.bytes
  have hr := B.returns
  have hts := atoms_spec (ws := (ws_ yX0_place cX0_place 1 (some .int))) B.pre
  have hts : ∀ w ∈ lw_all, w.before _ s = true := fun w h => hts w (List.mem_cons_of_mem _ h)
  have hown : s.vm.findClass RX0 = some m.cls := findClass_of_methodNamed B.named
  have hlocks := B.notSynchronized
  have hP : va_P (dC, dI) vwCl (mc_W0 h0 qc qm qr d ct u) s.heap := hP
  have hl := lv_entry ([.ref h0]) (n := 1) (Nat.le_of_ble_eq_true rfl)
  rw [lg_entry_eq]
  generalize (lg_sl ([.ref h0]) ++ List.replicate (1 - (lg_sl ([.ref h0])).length) Slot.unset).toArray = ls at hl ⊢
  have hl : lv_has ls 1 [(0, .ref h0)] := hl
  refine lv_aload_n hx hb dX0_place_0 rfl (lv_at hl 0 rfl) ?_
  refine va_get (D := (dC, dI)) (ci := 0) (v := .int (s_pc u)) (C := RX0) (T := TX0) (N := 11) hx hb hts in_X0 hown hK hP 0 rfl rfl 3 (by decide) (hts _ q78) (fun _ h9 => h9) rfl dX0_place_1 ?_
  exact W.iret (v := s_pc u) hx hb hr (fun t ht hW => ⟨s_pc u, rfl, rfl, ht⟩) (fun q h => by cases h) dX0_place_4
set_option maxHeartbeats 4000000 in
set_option maxRecDepth 100000 in
theorem met_sign (l : Launch) (dC : Nat → ClassId) (dI : Nat → Nat → Nat) (h0 qc qm qr : Nat) (d : ClassId) (ct : Nat → Int32) (u : mc_S0) : Met l yX0_sign (ws_ yX0_sign cX0_sign 1 (some .int)) ({ frames := 0, cells := 0, slots := 0, locals := 0 }) (va_Pc [.ref h0] (fun U => va_P (dC, dI) vwCl (mc_W0 h0 qc qm qr d ct u) U.heap ∧ va_K (dC, dI) vwCl [(d, .int)] U)) (vp_Si (fun r => r = signF u)) 0 0 (fun _ => False) := by
  refine Met.ofW (cc := cX0_sign) (maxL := 1) (ret := (some .int)) (by decide) rfl ?_
  intro p e s m args below meth c s₁ B hml hv
  obtain ⟨rfl, hP, hK⟩ := hv
  have hx := B.exec
  have hb := B.bytes
  have hr := B.returns
  have hts := atoms_spec (ws := (ws_ yX0_sign cX0_sign 1 (some .int))) B.pre
  have hts : ∀ w ∈ lw_all, w.before _ s = true := fun w h => hts w (List.mem_cons_of_mem _ h)
  have hown : s.vm.findClass RX0 = some m.cls := findClass_of_methodNamed B.named
  have hlocks := B.notSynchronized
  have hP : va_P (dC, dI) vwCl (mc_W0 h0 qc qm qr d ct u) s.heap := hP
  have hl := lv_entry ([.ref h0]) (n := 1) (Nat.le_of_ble_eq_true rfl)
  rw [lg_entry_eq]
  generalize (lg_sl ([.ref h0]) ++ List.replicate (1 - (lg_sl ([.ref h0])).length) Slot.unset).toArray = ls at hl ⊢
  have hl : lv_has ls 1 [(0, .ref h0)] := hl
  refine lv_aload_n hx hb dX0_sign_0 rfl (lv_at hl 0 rfl) ?_
  refine va_get (D := (dC, dI)) (ci := 0) (v := .int (s_sg u)) (C := RX0) (T := TX0) (N := 11) hx hb hts in_X0 hown hK hP 0 rfl rfl 4 (by decide) (hts _ q79) (fun _ h9 => h9) rfl dX0_sign_1 ?_
  refine lv_iconst (v := 4) hx hb dX0_sign_4 (by decide) ?_
  refine lv_icmp_ne (tgt := 12) hx hb dX0_sign_5 (by decide) (fun c_1 => ?_) (fun c_1 => ?_)
  · refine lv_aload_n hx hb dX0_sign_12 rfl (lv_at hl 0 rfl) ?_
    refine va_get (D := (dC, dI)) (ci := 0) (v := .int (s_sg u)) (C := RX0) (T := TX0) (N := 11) hx hb hts in_X0 hown hK hP 0 rfl rfl 4 (by decide) (hts _ q79) (fun _ h9 => h9) rfl dX0_sign_13 ?_
    refine lv_iconst (v := 2) hx hb dX0_sign_16 (by decide) ?_
    refine lv_icmp_ne (tgt := 24) hx hb dX0_sign_17 (by decide) (fun c_2 => ?_) (fun c_2 => ?_)
    · refine lv_iconst (v := 1) hx hb dX0_sign_24 (by decide) ?_
      exact W.iret (v := 1) hx hb hr (fun t ht hW => ⟨1, rfl, (by show 1 = signF u; unfold signF; rw [if_neg c_1, if_neg c_2]), ht⟩) (fun q h => by cases h) dX0_sign_25
    · refine lv_iconst (v := 0) hx hb dX0_sign_20 (by decide) ?_
      refine lv_goto (tgt := 25) hx hb dX0_sign_21 (by decide) ?_
      exact W.iret (v := 0) hx hb hr (fun t ht hW => ⟨0, rfl, (by show 0 = signF u; unfold signF; rw [if_neg c_1, if_pos c_2]), ht⟩) (fun q h => by cases h) dX0_sign_25
  · refine lv_iconst (v := (-1)) hx hb dX0_sign_8 (by decide) ?_
    refine lv_goto (tgt := 25) hx hb dX0_sign_9 (by decide) ?_
    exact W.iret (v := (-1)) hx hb hr (fun t ht hW => ⟨(-1), rfl, (by show (-1) = signF u; unfold signF; rw [if_pos c_1]), ht⟩) (fun q h => by cases h) dX0_sign_25
set_option maxHeartbeats 4000000 in
set_option maxRecDepth 100000 in
theorem met_status (l : Launch) (dC : Nat → ClassId) (dI : Nat → Nat → Nat) (h0 qc qm qr : Nat) (d : ClassId) (ct : Nat → Int32) (u : mc_S0) : Met l yX0_status (ws_ yX0_status cX0_status 1 (some .int)) ({ frames := 0, cells := 0, slots := 0, locals := 0 }) (va_Pc [.ref h0] (fun U => va_P (dC, dI) vwCl (mc_W0 h0 qc qm qr d ct u) U.heap ∧ va_K (dC, dI) vwCl [(d, .int)] U)) (vp_Si (fun r => r = s_st u)) 0 0 (fun _ => False) := by
  refine Met.ofW (cc := cX0_status) (maxL := 1) (ret := (some .int)) (by decide) rfl ?_
  intro p e s m args below meth c s₁ B hml hv
  obtain ⟨rfl, hP, hK⟩ := hv
  have hx := B.exec
  have hb := B.bytes
  have hr := B.returns
  have hts := atoms_spec (ws := (ws_ yX0_status cX0_status 1 (some .int))) B.pre
  have hts : ∀ w ∈ lw_all, w.before _ s = true := fun w h => hts w (List.mem_cons_of_mem _ h)
  have hown : s.vm.findClass RX0 = some m.cls := findClass_of_methodNamed B.named
  have hlocks := B.notSynchronized
  have hP : va_P (dC, dI) vwCl (mc_W0 h0 qc qm qr d ct u) s.heap := hP
  have hl := lv_entry ([.ref h0]) (n := 1) (Nat.le_of_ble_eq_true rfl)
  rw [lg_entry_eq]
  generalize (lg_sl ([.ref h0]) ++ List.replicate (1 - (lg_sl ([.ref h0])).length) Slot.unset).toArray = ls at hl ⊢
  have hl : lv_has ls 1 [(0, .ref h0)] := hl
  refine lv_aload_n hx hb dX0_status_0 rfl (lv_at hl 0 rfl) ?_
  refine va_get (D := (dC, dI)) (ci := 0) (v := .int (s_st u)) (C := RX0) (T := TX0) (N := 11) hx hb hts in_X0 hown hK hP 0 rfl rfl 5 (by decide) (hts _ q80) (fun _ h9 => h9) rfl dX0_status_1 ?_
  exact W.iret (v := s_st u) hx hb hr (fun t ht hW => ⟨s_st u, rfl, rfl, ht⟩) (fun q h => by cases h) dX0_status_4
set_option maxHeartbeats 4000000 in
set_option maxRecDepth 100000 in
theorem met_count (l : Launch) (dC : Nat → ClassId) (dI : Nat → Nat → Nat) (h0 qc qm qr : Nat) (d : ClassId) (ct : Nat → Int32) (u : mc_S0) : Met l yX0_count (ws_ yX0_count cX0_count 1 (some .int)) ({ frames := 0, cells := 0, slots := 0, locals := 0 }) (va_Pc [.ref h0] (fun U => va_P (dC, dI) vwCl (mc_W0 h0 qc qm qr d ct u) U.heap ∧ va_K (dC, dI) vwCl [(d, .int)] U)) (vp_Si (fun r => r = s_ex u)) 0 0 (fun _ => False) := by
  refine Met.ofW (cc := cX0_count) (maxL := 1) (ret := (some .int)) (by decide) rfl ?_
  intro p e s m args below meth c s₁ B hml hv
  obtain ⟨rfl, hP, hK⟩ := hv
  have hx := B.exec
  have hb := B.bytes
  have hr := B.returns
  have hts := atoms_spec (ws := (ws_ yX0_count cX0_count 1 (some .int))) B.pre
  have hts : ∀ w ∈ lw_all, w.before _ s = true := fun w h => hts w (List.mem_cons_of_mem _ h)
  have hown : s.vm.findClass RX0 = some m.cls := findClass_of_methodNamed B.named
  have hlocks := B.notSynchronized
  have hP : va_P (dC, dI) vwCl (mc_W0 h0 qc qm qr d ct u) s.heap := hP
  have hl := lv_entry ([.ref h0]) (n := 1) (Nat.le_of_ble_eq_true rfl)
  rw [lg_entry_eq]
  generalize (lg_sl ([.ref h0]) ++ List.replicate (1 - (lg_sl ([.ref h0])).length) Slot.unset).toArray = ls at hl ⊢
  have hl : lv_has ls 1 [(0, .ref h0)] := hl
  refine lv_aload_n hx hb dX0_count_0 rfl (lv_at hl 0 rfl) ?_
  refine va_get (D := (dC, dI)) (ci := 0) (v := .int (s_ex u)) (C := RX0) (T := TX0) (N := 11) hx hb hts in_X0 hown hK hP 0 rfl rfl 6 (by decide) (hts _ q81) (fun _ h9 => h9) rfl dX0_count_1 ?_
  exact W.iret (v := s_ex u) hx hb hr (fun t ht hW => ⟨s_ex u, rfl, rfl, ht⟩) (fun q h => by cases h) dX0_count_4
/-! MicroLc3: poke, setRegister, start -/
set_option maxHeartbeats 4000000 in
set_option maxRecDepth 100000 in
theorem met_poke (l : Launch) (dC : Nat → ClassId) (dI : Nat → Nat → Nat) (h0 qc qm qr : Nat) (d : ClassId) (ct : Nat → Int32) (sz : Nat) (u : mc_S0) (a b : Int32) : Met l yX0_poke (ws_ yX0_poke cX0_poke 3 (some .boolean)) ({ frames := 0, cells := 0, slots := 0, locals := 0 }) (va_Pc [.ref h0, .int a, .int b] (mc_P0 dC dI h0 qc qm qr d ct sz u)) (va_Qi (fun (r : Int32) (u' : mc_S0) => r = (pokeF u a b).1 ∧ u' = (pokeF u a b).2) (mc_B0 dC dI (va_A (mc_W0 h0 qc qm qr d ct u) sz) h0 qc qm qr d ct) (va_A (mc_W0 h0 qc qm qr d ct u) sz)) 0 0 (va_A (mc_W0 h0 qc qm qr d ct u) sz) := by
  refine Met.ofW (cc := cX0_poke) (maxL := 3) (ret := (some .boolean)) (by decide) rfl ?_
  intro p e s m args below meth c s₁ B hml hv
  obtain ⟨rfl, hsz, hP, hK, hD0⟩ := hv
  have hx := B.exec
  have hb := B.bytes
  have hr := B.returns
  have hts := atoms_spec (ws := (ws_ yX0_poke cX0_poke 3 (some .boolean))) B.pre
  have hts : ∀ w ∈ lw_all, w.before _ s = true := fun w h => hts w (List.mem_cons_of_mem _ h)
  have hown : s.vm.findClass RX0 = some m.cls := findClass_of_methodNamed B.named
  have hlocks := B.notSynchronized
  subst hsz
  have hD := hD0.self (sz := s.heap.size)
  generalize hAe : va_A (mc_W0 h0 qc qm qr d ct u) s.heap.size = A at hD ⊢
  have hA : ∀ q : Nat, s.heap.size ≤ q → A q := fun q h => by rw [← hAe]; exact Or.inr h
  have hS : va_S A s.heap s.heap [] := va_S.rf
  have hP : va_P (dC, dI) vwCl (mc_W0 h0 qc qm qr d ct u) s.heap := hP
  have hl := lv_entry ([.ref h0, .int a, .int b]) (n := 3) (Nat.le_of_ble_eq_true rfl)
  rw [lg_entry_eq]
  generalize (lg_sl ([.ref h0, .int a, .int b]) ++ List.replicate (3 - (lg_sl ([.ref h0, .int a, .int b])).length) Slot.unset).toArray = ls at hl ⊢
  have hl : lv_has ls 3 [(0, .ref h0), (1, .int a), (2, .int b)] := hl
  refine lv_iload_n hx hb dX0_poke_0 rfl (lv_at hl 1 rfl) ?_
  refine lv_if_lt (tgt := 20) hx hb dX0_poke_1 (by decide) (fun c_1 => ?_) (fun c_1 => ?_)
  · refine lv_iconst (v := 0) hx hb dX0_poke_20 (by decide) ?_
    exact W.zret (v := 0) hx hb hr rfl (fun t ht hW => ⟨⟨0, u, rfl, (by rw [show pokeF u a b = (0, u) from by unfold pokeF; rw [if_pos c_1]]; exact ⟨rfl, rfl⟩), by rw [ht]; exact hP, va_K.moved hW.alike hK, hD⟩, hS.F ht⟩) hS.2.2 dX0_poke_21
  · refine lv_iload_n hx hb dX0_poke_4 rfl (lv_at hl 1 rfl) ?_
    refine lv_bipush (v := 63) hx hb dX0_poke_5 (by decide) ?_
    refine lv_icmp_gt (tgt := 20) hx hb dX0_poke_7 (by decide) (fun c_2 => ?_) (fun c_2 => ?_)
    · refine lv_iconst (v := 0) hx hb dX0_poke_20 (by decide) ?_
      exact W.zret (v := 0) hx hb hr rfl (fun t ht hW => ⟨⟨0, u, rfl, (by rw [show pokeF u a b = (0, u) from by unfold pokeF; rw [if_neg c_1, if_pos c_2]]; exact ⟨rfl, rfl⟩), by rw [ht]; exact hP, va_K.moved hW.alike hK, hD⟩, hS.F ht⟩) hS.2.2 dX0_poke_21
    · refine lv_iload_n hx hb dX0_poke_10 rfl (lv_at hl 2 rfl) ?_
      refine lv_if_lt (tgt := 20) hx hb dX0_poke_11 (by decide) (fun c_3 => ?_) (fun c_3 => ?_)
      · refine lv_iconst (v := 0) hx hb dX0_poke_20 (by decide) ?_
        exact W.zret (v := 0) hx hb hr rfl (fun t ht hW => ⟨⟨0, u, rfl, (by rw [show pokeF u a b = (0, u) from by unfold pokeF; rw [if_neg c_1, if_neg c_2, if_pos c_3]]; exact ⟨rfl, rfl⟩), by rw [ht]; exact hP, va_K.moved hW.alike hK, hD⟩, hS.F ht⟩) hS.2.2 dX0_poke_21
      · refine lv_iload_n hx hb dX0_poke_14 rfl (lv_at hl 2 rfl) ?_
        refine lv_ldc (v := 65535) hx hb hown (hts _ q114) dX0_poke_15 ?_
        refine lv_icmp_le (tgt := 22) hx hb dX0_poke_17 (by decide) (fun c_4 => ?_) (fun c_4 => ?_)
        · refine lv_aload_n hx hb dX0_poke_22 rfl (lv_at hl 0 rfl) ?_
          refine va_get (D := (dC, dI)) (ci := 0) (v := .ref qm) (C := RX0) (T := TX0) (N := 11) hx hb hts in_X0 hown hK hP 0 rfl rfl 1 (by decide) (hts _ q76) (fun _ h9 => h9) rfl dX0_poke_23 ?_
          refine lv_iload_n hx hb dX0_poke_26 rfl (lv_at hl 1 rfl) ?_
          refine lv_iload_n hx hb dX0_poke_27 rfl (lv_at hl 2 rfl) ?_
          refine va_iast hx hb hK hP hD hS 2 0 rfl rfl (in_lt (n := 63) (by decide) c_1 c_2) dX0_poke_28 (fun H locs hP hD hS => ?_)
          have hP : va_P (dC, dI) vwCl (mc_W0 h0 qc qm qr d ct (put_mm u (upd (s_mm u) a.toNatClampNeg b))) H := hP
          have hD : va_D A (mc_W0 h0 qc qm qr d ct (put_mm u (upd (s_mm u) a.toNatClampNeg b))) := hD
          refine lv_iconst (v := 1) hx hb dX0_poke_29 (by decide) ?_
          exact W.zret (v := 1) hx hb hr rfl (fun t ht hW => ⟨⟨1, (put_mm u (upd (s_mm u) a.toNatClampNeg b)), rfl, (by rw [show pokeF u a b = (1, put_mm u (upd (s_mm u) a.toNatClampNeg b)) from by unfold pokeF; rw [if_neg c_1, if_neg c_2, if_neg c_3, if_pos c_4]]; exact ⟨rfl, rfl⟩), by rw [ht]; exact hP, va_K.moved hW.alike hK, hD⟩, hS.F ht⟩) hS.2.2 dX0_poke_30
        · refine lv_iconst (v := 0) hx hb dX0_poke_20 (by decide) ?_
          exact W.zret (v := 0) hx hb hr rfl (fun t ht hW => ⟨⟨0, u, rfl, (by rw [show pokeF u a b = (0, u) from by unfold pokeF; rw [if_neg c_1, if_neg c_2, if_neg c_3, if_neg c_4]]; exact ⟨rfl, rfl⟩), by rw [ht]; exact hP, va_K.moved hW.alike hK, hD⟩, hS.F ht⟩) hS.2.2 dX0_poke_21
set_option maxHeartbeats 4000000 in
set_option maxRecDepth 100000 in
theorem met_setRegister (l : Launch) (dC : Nat → ClassId) (dI : Nat → Nat → Nat) (h0 qc qm qr : Nat) (d : ClassId) (ct : Nat → Int32) (sz : Nat) (u : mc_S0) (a b : Int32) : Met l yX0_setRegister (ws_ yX0_setRegister cX0_setRegister 3 (some .boolean)) ({ frames := 0, cells := 0, slots := 0, locals := 0 }) (va_Pc [.ref h0, .int a, .int b] (mc_P0 dC dI h0 qc qm qr d ct sz u)) (va_Qi (fun (r : Int32) (u' : mc_S0) => r = (setF u a b).1 ∧ u' = (setF u a b).2) (mc_B0 dC dI (va_A (mc_W0 h0 qc qm qr d ct u) sz) h0 qc qm qr d ct) (va_A (mc_W0 h0 qc qm qr d ct u) sz)) 0 0 (va_A (mc_W0 h0 qc qm qr d ct u) sz) := by
  refine Met.ofW (cc := cX0_setRegister) (maxL := 3) (ret := (some .boolean)) (by decide) rfl ?_
  intro p e s m args below meth c s₁ B hml hv
  obtain ⟨rfl, hsz, hP, hK, hD0⟩ := hv
  have hx := B.exec
  have hb := B.bytes
  have hr := B.returns
  have hts := atoms_spec (ws := (ws_ yX0_setRegister cX0_setRegister 3 (some .boolean))) B.pre
  have hts : ∀ w ∈ lw_all, w.before _ s = true := fun w h => hts w (List.mem_cons_of_mem _ h)
  have hown : s.vm.findClass RX0 = some m.cls := findClass_of_methodNamed B.named
  have hlocks := B.notSynchronized
  subst hsz
  have hD := hD0.self (sz := s.heap.size)
  generalize hAe : va_A (mc_W0 h0 qc qm qr d ct u) s.heap.size = A at hD ⊢
  have hA : ∀ q : Nat, s.heap.size ≤ q → A q := fun q h => by rw [← hAe]; exact Or.inr h
  have hS : va_S A s.heap s.heap [] := va_S.rf
  have hP : va_P (dC, dI) vwCl (mc_W0 h0 qc qm qr d ct u) s.heap := hP
  have hl := lv_entry ([.ref h0, .int a, .int b]) (n := 3) (Nat.le_of_ble_eq_true rfl)
  rw [lg_entry_eq]
  generalize (lg_sl ([.ref h0, .int a, .int b]) ++ List.replicate (3 - (lg_sl ([.ref h0, .int a, .int b])).length) Slot.unset).toArray = ls at hl ⊢
  have hl : lv_has ls 3 [(0, .ref h0), (1, .int a), (2, .int b)] := hl
  refine lv_iload_n hx hb dX0_setRegister_0 rfl (lv_at hl 1 rfl) ?_
  refine lv_if_lt (tgt := 20) hx hb dX0_setRegister_1 (by decide) (fun c_1 => ?_) (fun c_1 => ?_)
  · refine lv_iconst (v := 0) hx hb dX0_setRegister_20 (by decide) ?_
    exact W.zret (v := 0) hx hb hr rfl (fun t ht hW => ⟨⟨0, u, rfl, (by rw [show setF u a b = (0, u) from by unfold setF; rw [if_pos c_1]]; exact ⟨rfl, rfl⟩), by rw [ht]; exact hP, va_K.moved hW.alike hK, hD⟩, hS.F ht⟩) hS.2.2 dX0_setRegister_21
  · refine lv_iload_n hx hb dX0_setRegister_4 rfl (lv_at hl 1 rfl) ?_
    refine lv_bipush (v := 7) hx hb dX0_setRegister_5 (by decide) ?_
    refine lv_icmp_gt (tgt := 20) hx hb dX0_setRegister_7 (by decide) (fun c_2 => ?_) (fun c_2 => ?_)
    · refine lv_iconst (v := 0) hx hb dX0_setRegister_20 (by decide) ?_
      exact W.zret (v := 0) hx hb hr rfl (fun t ht hW => ⟨⟨0, u, rfl, (by rw [show setF u a b = (0, u) from by unfold setF; rw [if_neg c_1, if_pos c_2]]; exact ⟨rfl, rfl⟩), by rw [ht]; exact hP, va_K.moved hW.alike hK, hD⟩, hS.F ht⟩) hS.2.2 dX0_setRegister_21
    · refine lv_iload_n hx hb dX0_setRegister_10 rfl (lv_at hl 2 rfl) ?_
      refine lv_if_lt (tgt := 20) hx hb dX0_setRegister_11 (by decide) (fun c_3 => ?_) (fun c_3 => ?_)
      · refine lv_iconst (v := 0) hx hb dX0_setRegister_20 (by decide) ?_
        exact W.zret (v := 0) hx hb hr rfl (fun t ht hW => ⟨⟨0, u, rfl, (by rw [show setF u a b = (0, u) from by unfold setF; rw [if_neg c_1, if_neg c_2, if_pos c_3]]; exact ⟨rfl, rfl⟩), by rw [ht]; exact hP, va_K.moved hW.alike hK, hD⟩, hS.F ht⟩) hS.2.2 dX0_setRegister_21
      · refine lv_iload_n hx hb dX0_setRegister_14 rfl (lv_at hl 2 rfl) ?_
        refine lv_ldc (v := 65535) hx hb hown (hts _ q114) dX0_setRegister_15 ?_
        refine lv_icmp_le (tgt := 22) hx hb dX0_setRegister_17 (by decide) (fun c_4 => ?_) (fun c_4 => ?_)
        · refine lv_aload_n hx hb dX0_setRegister_22 rfl (lv_at hl 0 rfl) ?_
          refine va_get (D := (dC, dI)) (ci := 0) (v := .ref qr) (C := RX0) (T := TX0) (N := 11) hx hb hts in_X0 hown hK hP 0 rfl rfl 2 (by decide) (hts _ q77) (fun _ h9 => h9) rfl dX0_setRegister_23 ?_
          refine lv_iload_n hx hb dX0_setRegister_26 rfl (lv_at hl 1 rfl) ?_
          refine lv_iload_n hx hb dX0_setRegister_27 rfl (lv_at hl 2 rfl) ?_
          refine va_iast hx hb hK hP hD hS 3 0 rfl rfl (in_lt (n := 7) (by decide) c_1 c_2) dX0_setRegister_28 (fun H locs hP hD hS => ?_)
          have hP : va_P (dC, dI) vwCl (mc_W0 h0 qc qm qr d ct (put_rr u (upd (s_rr u) a.toNatClampNeg b))) H := hP
          have hD : va_D A (mc_W0 h0 qc qm qr d ct (put_rr u (upd (s_rr u) a.toNatClampNeg b))) := hD
          refine lv_iconst (v := 1) hx hb dX0_setRegister_29 (by decide) ?_
          exact W.zret (v := 1) hx hb hr rfl (fun t ht hW => ⟨⟨1, (put_rr u (upd (s_rr u) a.toNatClampNeg b)), rfl, (by rw [show setF u a b = (1, put_rr u (upd (s_rr u) a.toNatClampNeg b)) from by unfold setF; rw [if_neg c_1, if_neg c_2, if_neg c_3, if_pos c_4]]; exact ⟨rfl, rfl⟩), by rw [ht]; exact hP, va_K.moved hW.alike hK, hD⟩, hS.F ht⟩) hS.2.2 dX0_setRegister_30
        · refine lv_iconst (v := 0) hx hb dX0_setRegister_20 (by decide) ?_
          exact W.zret (v := 0) hx hb hr rfl (fun t ht hW => ⟨⟨0, u, rfl, (by rw [show setF u a b = (0, u) from by unfold setF; rw [if_neg c_1, if_neg c_2, if_neg c_3, if_neg c_4]]; exact ⟨rfl, rfl⟩), by rw [ht]; exact hP, va_K.moved hW.alike hK, hD⟩, hS.F ht⟩) hS.2.2 dX0_setRegister_21
set_option maxHeartbeats 4000000 in
set_option maxRecDepth 100000 in
theorem met_start (l : Launch) (dC : Nat → ClassId) (dI : Nat → Nat → Nat) (h0 qc qm qr : Nat) (d : ClassId) (ct : Nat → Int32) (sz : Nat) (u : mc_S0) (b : Int32) : Met l yX0_start (ws_ yX0_start cX0_start 2 (some .boolean)) ({ frames := 0, cells := 0, slots := 0, locals := 0 }) (va_Pc [.ref h0, .int b] (mc_P0 dC dI h0 qc qm qr d ct sz u)) (va_Qi (fun (r : Int32) (u' : mc_S0) => r = (startF u b).1 ∧ u' = (startF u b).2) (mc_B0 dC dI (va_A (mc_W0 h0 qc qm qr d ct u) sz) h0 qc qm qr d ct) (va_A (mc_W0 h0 qc qm qr d ct u) sz)) 0 0 (va_A (mc_W0 h0 qc qm qr d ct u) sz) := by
  refine Met.ofW (cc := cX0_start) (maxL := 2) (ret := (some .boolean)) (by decide) rfl ?_
  intro p e s m args below meth c s₁ B hml hv
  obtain ⟨rfl, hsz, hP, hK, hD0⟩ := hv
  have hx := B.exec
  have hb := B.bytes
  have hr := B.returns
  have hts := atoms_spec (ws := (ws_ yX0_start cX0_start 2 (some .boolean))) B.pre
  have hts : ∀ w ∈ lw_all, w.before _ s = true := fun w h => hts w (List.mem_cons_of_mem _ h)
  have hown : s.vm.findClass RX0 = some m.cls := findClass_of_methodNamed B.named
  have hlocks := B.notSynchronized
  subst hsz
  have hD := hD0.self (sz := s.heap.size)
  generalize hAe : va_A (mc_W0 h0 qc qm qr d ct u) s.heap.size = A at hD ⊢
  have hA : ∀ q : Nat, s.heap.size ≤ q → A q := fun q h => by rw [← hAe]; exact Or.inr h
  have hS : va_S A s.heap s.heap [] := va_S.rf
  have hP : va_P (dC, dI) vwCl (mc_W0 h0 qc qm qr d ct u) s.heap := hP
  have hl := lv_entry ([.ref h0, .int b]) (n := 2) (Nat.le_of_ble_eq_true rfl)
  rw [lg_entry_eq]
  generalize (lg_sl ([.ref h0, .int b]) ++ List.replicate (2 - (lg_sl ([.ref h0, .int b])).length) Slot.unset).toArray = ls at hl ⊢
  have hl : lv_has ls 2 [(0, .ref h0), (1, .int b)] := hl
  refine lv_iload_n hx hb dX0_start_0 rfl (lv_at hl 1 rfl) ?_
  refine lv_if_lt (tgt := 10) hx hb dX0_start_1 (by decide) (fun c_1 => ?_) (fun c_1 => ?_)
  · refine lv_iconst (v := 0) hx hb dX0_start_10 (by decide) ?_
    exact W.zret (v := 0) hx hb hr rfl (fun t ht hW => ⟨⟨0, u, rfl, (by rw [show startF u b = (0, u) from by unfold startF; rw [if_pos c_1]]; exact ⟨rfl, rfl⟩), by rw [ht]; exact hP, va_K.moved hW.alike hK, hD⟩, hS.F ht⟩) hS.2.2 dX0_start_11
  · refine lv_iload_n hx hb dX0_start_4 rfl (lv_at hl 1 rfl) ?_
    refine lv_ldc (v := 65535) hx hb hown (hts _ q114) dX0_start_5 ?_
    refine lv_icmp_le (tgt := 12) hx hb dX0_start_7 (by decide) (fun c_2 => ?_) (fun c_2 => ?_)
    · refine lv_aload_n hx hb dX0_start_12 rfl (lv_at hl 0 rfl) ?_
      refine lv_iload_n hx hb dX0_start_13 rfl (lv_at hl 1 rfl) ?_
      refine va_put (D := (dC, dI)) (ci := 0) (v := .int b) (ty := .int) (C := RX0) (T := TX0) (N := 11) hx hb hts in_X0 tyX0 tyX0_ok nmX0 hown hK hP hD hS 0 rfl rfl 3 (by decide) (hts _ q78) (fun _ h9 => h9) rfl (by decide +kernel) rfl rfl (Nat.le_of_ble_eq_true rfl) dX0_start_14 (fun H locs hP hD hS => ?_)
      have hP : va_P (dC, dI) vwCl (mc_W0 h0 qc qm qr d ct (put_pc u b)) H := hP
      have hD : va_D A (mc_W0 h0 qc qm qr d ct (put_pc u b)) := hD
      refine lv_aload_n hx hb dX0_start_17 rfl (lv_at hl 0 rfl) ?_
      refine lv_iconst (v := 0) hx hb dX0_start_18 (by decide) ?_
      refine va_put (D := (dC, dI)) (ci := 0) (v := .int 0) (ty := .int) (C := RX0) (T := TX0) (N := 11) hx hb hts in_X0 tyX0 tyX0_ok nmX0 hown hK hP hD hS 0 rfl rfl 5 (by decide) (hts _ q80) (fun _ h9 => h9) rfl (by decide +kernel) rfl rfl (Nat.le_of_ble_eq_true rfl) dX0_start_19 (fun H locs hP hD hS => ?_)
      have hP : va_P (dC, dI) vwCl (mc_W0 h0 qc qm qr d ct (put_st (put_pc u b) 0)) H := hP
      have hD : va_D A (mc_W0 h0 qc qm qr d ct (put_st (put_pc u b) 0)) := hD
      refine lv_iconst (v := 1) hx hb dX0_start_22 (by decide) ?_
      exact W.zret (v := 1) hx hb hr rfl (fun t ht hW => ⟨⟨1, (put_st (put_pc u b) 0), rfl, (by rw [show startF u b = (1, put_st (put_pc u b) 0) from by unfold startF; rw [if_neg c_1, if_pos c_2]]; exact ⟨rfl, rfl⟩), by rw [ht]; exact hP, va_K.moved hW.alike hK, hD⟩, hS.F ht⟩) hS.2.2 dX0_start_23
    · refine lv_iconst (v := 0) hx hb dX0_start_10 (by decide) ?_
      exact W.zret (v := 0) hx hb hr rfl (fun t ht hW => ⟨⟨0, u, rfl, (by rw [show startF u b = (0, u) from by unfold startF; rw [if_neg c_1, if_neg c_2]]; exact ⟨rfl, rfl⟩), by rw [ht]; exact hP, va_K.moved hW.alike hK, hD⟩, hS.F ht⟩) hS.2.2 dX0_start_11
end
section
/-! MicroLc3.step: its two loops, and the method -/
set_option maxHeartbeats 4000000 in
set_option maxRecDepth 100000 in
theorem step_in {p : Program} {l : Launch} {e : Env} {R : Room} {s : State} {m : MethodId} {args : Array Value} {below : List Frame} {meth : Method} {c : Code} {Q : State → Prop} {dC : Nat → ClassId} {dI : Nat → Nat → Nat} {A : Nat → Prop} {h0 qc qm qr : Nat} {d : ClassId} {ct : Nat → Int32} (hx : p.tables.exec = Jvm.exec) (hb : c.code = cX0_step) (hml : c.maxLocals = 5) (hown : s.vm.findClass RX0 = some m.cls) (hts : ∀ w ∈ lw_all, w.before args s = true) (hR : 5 ≤ R.frames ∧ 116 ≤ R.locals) (hA : ∀ q : Nat, s.heap.size ≤ q → A q) (hK : va_K (dC, dI) vwCl [(d, .int)] s) {x1 x2 x3 : Int32} : ∀ (n k : Nat) (u : mc_S0) (H : Heap) (locs : List Loc) (ls : Array Slot), k + n = 10 → mc_Good u → va_P (dC, dI) vwCl (mc_W0 h0 qc qm qr d ct u) H → va_D A (mc_W0 h0 qc qm qr d ct u) → va_S A s.heap H locs → lv_has ls 5 [(4, .int (nI k)), (3, .int x3), (2, .int x2), (0, .ref h0), (1, .int x1)] → (∀ (H : Heap) (locs : List Loc) (ls : Array Slot), va_P (dC, dI) vwCl (mc_W0 h0 qc qm qr d ct (innF ct n u)) H → va_D A (mc_W0 h0 qc qm qr d ct (innF ct n u)) → va_S A s.heap H locs → lv_has ls 5 [(3, .int x3), (2, .int x2), (0, .ref h0), (1, .int x1)] → W p l e R s m args below meth c H locs 0 0 Q (F0 m 68 ls [])) → W p l e R s m args below meth c H locs 0 0 Q (F0 m 42 ls []) := by
  intro n
  induction n with
  | zero =>
    intro k u H locs ls hk hg hP hD hS hl kk
    have hk : k = 10 := by omega
    subst hk
    refine lv_iload hx hb dX0_step_42 (lv_at hl 0 rfl) ?_
    refine lv_bipush (v := 10) hx hb dX0_step_44 (by decide) ?_
    refine lv_icmp_ge (tgt := 68) hx hb dX0_step_46 (by decide) (fun c_1 => ?_) (fun c_1 => ?_)
    · exact kk _ _ _ hP hD hS (lv_sub hl [1, 2, 3, 4] rfl)
    · exact absurd (nI_le (a := 10) (b := 10) (Nat.le_refl _) (by decide)) c_1
  | succ n ih =>
    intro k u H locs ls hk hg hP hD hS hl kk
    refine lv_iload hx hb dX0_step_42 (lv_at hl 0 rfl) ?_
    refine lv_bipush (v := 10) hx hb dX0_step_44 (by decide) ?_
    refine lv_icmp_ge (tgt := 68) hx hb dX0_step_46 (by decide) (fun c_1 => ?_) (fun c_1 => ?_)
    · exact absurd c_1 (nI_ge (a := k) (b := 10) (by omega) (by decide))
    · refine lv_aload_n hx hb dX0_step_49 rfl (lv_at hl 3 rfl) ?_
      refine va_get (D := (dC, dI)) (ci := 0) (v := .int (s_state u)) (C := RX0) (T := TX0) (N := 11) hx hb hts in_X0 hown hK hP 0 rfl rfl 7 (by decide) (hts _ q82) (fun _ h9 => h9) rfl dX0_step_50 ?_
      refine lv_bipush (v := 18) hx hb dX0_step_53 (by decide) ?_
      refine lv_icmp_eq (tgt := 68) hx hb dX0_step_55 (by decide) (fun c_2 => ?_) (fun c_2 => ?_)
      · have ev : innF ct (n + 1) u = u := if_pos c_2
        rw [ev] at kk
        exact kk _ _ _ hP hD hS (lv_sub hl [1, 2, 3, 4] rfl)
      · refine lv_aload_n hx hb dX0_step_58 rfl (lv_at hl 3 rfl) ?_
        refine wr_cycle ⟨hx, hb, hml, hown, hts⟩ hA hg.1 hK hP hD hS hR hl.1 (Nat.le_of_ble_eq_true rfl) dX0_step_59 ⟨Nat.zero_le _, Nat.zero_le _⟩ (fun H locs hP hD hS => ?_)
        refine lv_iinc (v := nI (k + 1)) (lv' := [(4, .int (nI (k + 1))), (3, .int x3), (2, .int x2), (0, .ref h0), (1, .int x1)]) hx hb dX0_step_62 hl (k := 0) rfl (nI_1 k) (by decide) rfl (fun ls hl => ?_)
        refine lv_goto (tgt := 42) hx hb dX0_step_65 (by decide) ?_
        have ev : innF ct (n + 1) u = innF ct n (cyc ct u) := if_neg c_2
        rw [ev] at kk
        exact ih (k + 1) (cyc ct u) _ _ _ (by omega) (good_cyc ct hg) hP hD hS hl kk
set_option maxHeartbeats 4000000 in
set_option maxRecDepth 100000 in
theorem step_out {p : Program} {l : Launch} {e : Env} {R : Room} {s : State} {m : MethodId} {args : Array Value} {below : List Frame} {meth : Method} {c : Code} {Q : State → Prop} {dC : Nat → ClassId} {dI : Nat → Nat → Nat} {A : Nat → Prop} {h0 qc qm qr : Nat} {d : ClassId} {ct : Nat → Int32} (hx : p.tables.exec = Jvm.exec) (hb : c.code = cX0_step) (hml : c.maxLocals = 5) (hown : s.vm.findClass RX0 = some m.cls) (hts : ∀ w ∈ lw_all, w.before args s = true) (hR : 5 ≤ R.frames ∧ 116 ≤ R.locals) (hA : ∀ q : Nat, s.heap.size ≤ q → A q) (hK : va_K (dC, dI) vwCl [(d, .int)] s) {x1 : Int32} {w : Nat} (hw : w ≤ 100) : ∀ (n k : Nat) (u : mc_S0) (H : Heap) (locs : List Loc) (ls : Array Slot), k + n = w → mc_Good u → va_P (dC, dI) vwCl (mc_W0 h0 qc qm qr d ct u) H → va_D A (mc_W0 h0 qc qm qr d ct u) → va_S A s.heap H locs → lv_has ls 5 [(3, .int (nI k)), (2, .int (nI w)), (0, .ref h0), (1, .int x1)] → (∀ (H : Heap) (locs : List Loc) (ls : Array Slot), va_P (dC, dI) vwCl (mc_W0 h0 qc qm qr d ct ((runF ct n u k).1)) H → va_D A (mc_W0 h0 qc qm qr d ct ((runF ct n u k).1)) → va_S A s.heap H locs → lv_has ls 5 [(3, .int (nI (runF ct n u k).2)), (0, .ref h0)] → W p l e R s m args below meth c H locs 0 0 Q (F0 m 74 ls [])) → W p l e R s m args below meth c H locs 0 0 Q (F0 m 23 ls []) := by
  intro n
  induction n with
  | zero =>
    intro k u H locs ls hk hg hP hD hS hl kk
    have hk : k = w := by omega
    subst hk
    refine lv_iload_n hx hb dX0_step_23 rfl (lv_at hl 0 rfl) ?_
    refine lv_iload_n hx hb dX0_step_24 rfl (lv_at hl 1 rfl) ?_
    refine lv_icmp_ge (tgt := 74) hx hb dX0_step_25 (by decide) (fun c_1 => ?_) (fun c_1 => ?_)
    · exact kk _ _ _ hP hD hS (lv_sub hl [0, 2] rfl)
    · exact absurd (nI_le (Nat.le_refl k) (by omega)) c_1
  | succ n ih =>
    intro k u H locs ls hk hg hP hD hS hl kk
    refine lv_iload_n hx hb dX0_step_23 rfl (lv_at hl 0 rfl) ?_
    refine lv_iload_n hx hb dX0_step_24 rfl (lv_at hl 1 rfl) ?_
    refine lv_icmp_ge (tgt := 74) hx hb dX0_step_25 (by decide) (fun c_1 => ?_) (fun c_1 => ?_)
    · exact absurd c_1 (nI_ge (a := k) (b := w) (by omega) (by omega))
    · refine lv_aload_n hx hb dX0_step_28 rfl (lv_at hl 2 rfl) ?_
      refine va_get (D := (dC, dI)) (ci := 0) (v := .int (s_st u)) (C := RX0) (T := TX0) (N := 11) hx hb hts in_X0 hown hK hP 0 rfl rfl 5 (by decide) (hts _ q80) (fun _ h9 => h9) rfl dX0_step_29 ?_
      refine lv_if_ne (tgt := 74) hx hb dX0_step_32 (by decide) (fun c_2 => ?_) (fun c_2 => ?_)
      · have ev : runF ct (n + 1) u k = (u, k) := if_neg c_2
        rw [ev] at kk
        exact kk _ _ _ hP hD hS (lv_sub hl [0, 2] rfl)
      · refine lv_aload_n hx hb dX0_step_35 rfl (lv_at hl 2 rfl) ?_
        refine wr_cycle ⟨hx, hb, hml, hown, hts⟩ hA hg.1 hK hP hD hS hR hl.1 (Nat.le_of_ble_eq_true rfl) dX0_step_36 ⟨Nat.zero_le _, Nat.zero_le _⟩ (fun H locs hP hD hS => ?_)
        refine lv_iconst (v := 0) hx hb dX0_step_39 (by decide) ?_
        refine lv_istore (lv' := [(4, .int (nI 0)), (3, .int (nI k)), (2, .int (nI w)), (0, .ref h0), (1, .int x1)]) hx hb dX0_step_40 hl (by decide) rfl (fun ls hl => ?_)
        have ev : runF ct (n + 1) u k = runF ct n (insF ct u) (k + 1) := if_pos c_2
        rw [ev] at kk
        refine step_in hx hb hml hown hts hR hA hK 10 0 (cyc ct u) _ _ _ rfl (good_cyc ct hg) hP hD hS hl (fun H locs ls hP hD hS hl => ?_)
        refine lv_iinc (v := nI (k + 1)) (lv' := [(3, .int (nI (k + 1))), (2, .int (nI w)), (0, .ref h0), (1, .int x1)]) hx hb dX0_step_68 hl (k := 0) rfl (nI_1 k) (by decide) rfl (fun ls hl => ?_)
        refine lv_goto (tgt := 23) hx hb dX0_step_71 (by decide) ?_
        exact ih (k + 1) (insF ct u) _ _ _ (by omega) (good_ins ct hg) hP hD hS hl kk
set_option maxHeartbeats 4000000 in
set_option maxRecDepth 100000 in
theorem met_step (l : Launch) (dC : Nat → ClassId) (dI : Nat → Nat → Nat) (h0 qc qm qr : Nat) (d : ClassId) (ct : Nat → Int32) (sz : Nat) (u : mc_S0) (hg : mc_Good u) (a : Int32) : Met l yX0_step (ws_ yX0_step cX0_step 5 (some .int)) ({ frames := 5, cells := 0, slots := 0, locals := 116 }) (va_Pc [.ref h0, .int a] (mc_P0 dC dI h0 qc qm qr d ct sz u)) (va_Qi (fun (r : Int32) (u' : mc_S0) => r = nI (stepF ct a u).2 ∧ u' = put_ex (stepF ct a u).1 (s_ex (stepF ct a u).1 + nI (stepF ct a u).2)) (mc_B0 dC dI (va_A (mc_W0 h0 qc qm qr d ct u) sz) h0 qc qm qr d ct) (va_A (mc_W0 h0 qc qm qr d ct u) sz)) 0 0 (va_A (mc_W0 h0 qc qm qr d ct u) sz) := by
  refine Met.ofW (cc := cX0_step) (maxL := 5) (ret := (some .int)) (by decide) rfl ?_
  intro p e s m args below meth c s₁ B hml hv
  obtain ⟨rfl, hsz, hP, hK, hD0⟩ := hv
  have hx := B.exec
  have hb := B.bytes
  have hr := B.returns
  have hts := atoms_spec (ws := (ws_ yX0_step cX0_step 5 (some .int))) B.pre
  have hts : ∀ w ∈ lw_all, w.before _ s = true := fun w h => hts w (List.mem_cons_of_mem _ h)
  have hown : s.vm.findClass RX0 = some m.cls := findClass_of_methodNamed B.named
  have hlocks := B.notSynchronized
  subst hsz
  have hD := hD0.self (sz := s.heap.size)
  generalize hAe : va_A (mc_W0 h0 qc qm qr d ct u) s.heap.size = A at hD ⊢
  have hA : ∀ q : Nat, s.heap.size ≤ q → A q := fun q h => by rw [← hAe]; exact Or.inr h
  have hS : va_S A s.heap s.heap [] := va_S.rf
  have hP : va_P (dC, dI) vwCl (mc_W0 h0 qc qm qr d ct u) s.heap := hP
  have hl := lv_entry ([.ref h0, .int a]) (n := 5) (Nat.le_of_ble_eq_true rfl)
  rw [lg_entry_eq]
  generalize (lg_sl ([.ref h0, .int a]) ++ List.replicate (5 - (lg_sl ([.ref h0, .int a])).length) Slot.unset).toArray = ls at hl ⊢
  have hl : lv_has ls 5 [(0, .ref h0), (1, .int a)] := hl
  have j20 : ∀ v : Int32, v = nI (wantF a) → W p l e (headSpec (ws_ yX0_step cX0_step 5 (some .int)) ({ frames := 5, cells := 0, slots := 0, locals := 116 })).room s m ([.ref h0, .int a]).toArray below meth c s.heap [] 0 0 (MQ below (va_Qi (fun (r : Int32) (u' : mc_S0) => r = nI (stepF ct a u).2 ∧ u' = put_ex (stepF ct a u).1 (s_ex (stepF ct a u).1 + nI (stepF ct a u).2)) (mc_B0 dC dI A h0 qc qm qr d ct) A) ([.ref h0, .int a]).toArray s 0 0 A) (F0 m 20 ls [.int v]) := by
    intro v ev
    subst ev
    refine lv_istore_n (lv' := [(2, .int (nI (wantF a))), (0, .ref h0), (1, .int a)]) hx hb dX0_step_20 rfl hl (by decide) rfl (fun ls hl => ?_)
    refine lv_iconst (v := 0) hx hb dX0_step_21 (by decide) ?_
    refine lv_istore_n (lv' := [(3, .int (nI 0)), (2, .int (nI (wantF a))), (0, .ref h0), (1, .int a)]) hx hb dX0_step_22 rfl hl (by decide) rfl (fun ls hl => ?_)
    refine step_out hx hb hml hown hts ⟨Nat.le_of_ble_eq_true rfl, Nat.le_of_ble_eq_true rfl⟩ hA hK (want_le a) (wantF a) 0 u _ _ _ (by omega) hg hP hD hS hl (fun H locs ls hP hD hS hl => ?_)
    refine lv_aload_n hx hb dX0_step_74 rfl (lv_at hl 1 rfl) ?_
    refine lv_dup hx hb dX0_step_75 rfl ?_
    refine va_get (D := (dC, dI)) (ci := 0) (v := .int (s_ex ((runF ct (wantF a) u 0).1))) (C := RX0) (T := TX0) (N := 11) hx hb hts in_X0 hown hK hP 0 rfl rfl 6 (by decide) (hts _ q81) (fun _ h9 => h9) rfl dX0_step_76 ?_
    refine lv_iload_n hx hb dX0_step_79 rfl (lv_at hl 0 rfl) ?_
    refine lv_iadd hx hb dX0_step_80 ?_
    refine va_put (D := (dC, dI)) (ci := 0) (v := .int ((s_ex ((runF ct (wantF a) u 0).1)) + (nI (runF ct (wantF a) u 0).2))) (ty := .int) (C := RX0) (T := TX0) (N := 11) hx hb hts in_X0 tyX0 tyX0_ok nmX0 hown hK hP hD hS 0 rfl rfl 6 (by decide) (hts _ q81) (fun _ h9 => h9) rfl (by decide +kernel) rfl rfl (Nat.le_of_ble_eq_true rfl) dX0_step_81 (fun H locs hP hD hS => ?_)
    have hP : va_P (dC, dI) vwCl (mc_W0 h0 qc qm qr d ct (put_ex ((runF ct (wantF a) u 0).1) ((s_ex ((runF ct (wantF a) u 0).1)) + (nI (runF ct (wantF a) u 0).2)))) H := hP
    have hD : va_D A (mc_W0 h0 qc qm qr d ct (put_ex ((runF ct (wantF a) u 0).1) ((s_ex ((runF ct (wantF a) u 0).1)) + (nI (runF ct (wantF a) u 0).2)))) := hD
    refine lv_iload_n hx hb dX0_step_84 rfl (lv_at hl 0 rfl) ?_
    exact W.iret (v := nI (runF ct (wantF a) u 0).2) hx hb hr (fun t ht hW => ⟨⟨nI (runF ct (wantF a) u 0).2, (put_ex ((runF ct (wantF a) u 0).1) ((s_ex ((runF ct (wantF a) u 0).1)) + (nI (runF ct (wantF a) u 0).2))), rfl, ⟨rfl, rfl⟩, by rw [ht]; exact hP, va_K.moved hW.alike hK, hD⟩, hS.F ht⟩) hS.2.2 dX0_step_85
  refine lv_iload_n hx hb dX0_step_0 rfl (lv_at hl 1 rfl) ?_
  refine lv_if_ge (tgt := 8) hx hb dX0_step_1 (by decide) (fun c_1 => ?_) (fun c_1 => ?_)
  · refine lv_iload_n hx hb dX0_step_8 rfl (lv_at hl 1 rfl) ?_
    refine lv_bipush (v := 100) hx hb dX0_step_9 (by decide) ?_
    refine lv_icmp_le (tgt := 19) hx hb dX0_step_11 (by decide) (fun c_2 => ?_) (fun c_2 => ?_)
    · refine lv_iload_n hx hb dX0_step_19 rfl (lv_at hl 1 rfl) ?_
      exact j20 _ (want_mid c_1 c_2)
    · refine lv_bipush (v := 100) hx hb dX0_step_14 (by decide) ?_
      refine lv_goto (tgt := 20) hx hb dX0_step_16 (by decide) ?_
      exact j20 _ (by unfold wantF; rw [if_pos c_1, if_neg c_2]; rfl)
  · refine lv_iconst (v := 0) hx hb dX0_step_4 (by decide) ?_
    refine lv_goto (tgt := 20) hx hb dX0_step_5 (by decide) ?_
    exact j20 _ (by unfold wantF; rw [if_neg c_1]; rfl)
end
section
/-! MicroLc3: the control store, the constructor -/
def ctF0 (ct : Nat → Int32) : Nat → Int32 := upd (upd (upd (upd ct 18 18721) 33 67109411) 35 33824) 32 64
set_option maxHeartbeats 4000000 in
set_option maxRecDepth 100000 in
theorem met_fillFetchAndDecode (l : Launch) (dC : Nat → ClassId) (dI : Nat → Nat → Nat) (h0 qc qm qr : Nat) (d : ClassId) (ct : Nat → Int32) (sz : Nat) (u : mc_S0) : Met l yX0_fillFetchAndDecode (ws_ yX0_fillFetchAndDecode cX0_fillFetchAndDecode 1 none) ({ frames := 0, cells := 0, slots := 0, locals := 0 }) (va_Pc [.ref h0] (mc_P0 dC dI h0 qc qm qr d ct sz u)) (va_Qv (fun c' : Nat → Int32 => c' = ctF0 ct) (fun c' => mc_B0 dC dI (va_A (mc_W0 h0 qc qm qr d ct u) sz) h0 qc qm qr d c' u) (va_A (mc_W0 h0 qc qm qr d ct u) sz)) 0 0 (va_A (mc_W0 h0 qc qm qr d ct u) sz) := by
  refine Met.ofW (cc := cX0_fillFetchAndDecode) (maxL := 1) (ret := none) (by decide) rfl ?_
  intro p e s m args below meth c s₁ B hml hv
  obtain ⟨rfl, hsz, hP, hK, hD0⟩ := hv
  have hx := B.exec
  have hb := B.bytes
  have hr := B.returns
  have hts := atoms_spec (ws := (ws_ yX0_fillFetchAndDecode cX0_fillFetchAndDecode 1 none)) B.pre
  have hts : ∀ w ∈ lw_all, w.before _ s = true := fun w h => hts w (List.mem_cons_of_mem _ h)
  have hown : s.vm.findClass RX0 = some m.cls := findClass_of_methodNamed B.named
  have hlocks := B.notSynchronized
  subst hsz
  have hD := hD0.self (sz := s.heap.size)
  generalize hAe : va_A (mc_W0 h0 qc qm qr d ct u) s.heap.size = A at hD ⊢
  have hA : ∀ q : Nat, s.heap.size ≤ q → A q := fun q h => by rw [← hAe]; exact Or.inr h
  have hS : va_S A s.heap s.heap [] := va_S.rf
  have hP : va_P (dC, dI) vwCl (mc_W0 h0 qc qm qr d ct u) s.heap := hP
  have hl := lv_entry ([.ref h0]) (n := 1) (Nat.le_of_ble_eq_true rfl)
  rw [lg_entry_eq]
  generalize (lg_sl ([.ref h0]) ++ List.replicate (1 - (lg_sl ([.ref h0])).length) Slot.unset).toArray = ls at hl ⊢
  have hl : lv_has ls 1 [(0, .ref h0)] := hl
  refine lv_aload_n hx hb dX0_fillFetchAndDecode_0 rfl (lv_at hl 0 rfl) ?_
  refine va_get (D := (dC, dI)) (ci := 0) (v := .ref qc) (C := RX0) (T := TX0) (N := 11) hx hb hts in_X0 hown hK hP 0 rfl rfl 0 (by decide) (hts _ q75) (fun _ h9 => h9) rfl dX0_fillFetchAndDecode_1 ?_
  refine lv_bipush (v := 18) hx hb dX0_fillFetchAndDecode_4 (by decide) ?_
  refine lv_sipush (v := 18721) hx hb dX0_fillFetchAndDecode_6 (by decide) ?_
  refine va_iast hx hb hK hP hD hS 1 0 rfl rfl (vp_in_nI (n := 18) (by decide) (by decide)) dX0_fillFetchAndDecode_9 (fun H locs hP hD hS => ?_)
  have hP : va_P (dC, dI) vwCl (mc_W0 h0 qc qm qr d (upd ct 18 18721) u) H := hP
  have hD : va_D A (mc_W0 h0 qc qm qr d (upd ct 18 18721) u) := hD
  refine lv_aload_n hx hb dX0_fillFetchAndDecode_10 rfl (lv_at hl 0 rfl) ?_
  refine va_get (D := (dC, dI)) (ci := 0) (v := .ref qc) (C := RX0) (T := TX0) (N := 11) hx hb hts in_X0 hown hK hP 0 rfl rfl 0 (by decide) (hts _ q75) (fun _ h9 => h9) rfl dX0_fillFetchAndDecode_11 ?_
  refine lv_bipush (v := 33) hx hb dX0_fillFetchAndDecode_14 (by decide) ?_
  refine lv_ldc (v := 67109411) hx hb hown (hts _ q37) dX0_fillFetchAndDecode_16 ?_
  refine va_iast hx hb hK hP hD hS 1 0 rfl rfl (vp_in_nI (n := 33) (by decide) (by decide)) dX0_fillFetchAndDecode_18 (fun H locs hP hD hS => ?_)
  have hP : va_P (dC, dI) vwCl (mc_W0 h0 qc qm qr d (upd (upd ct 18 18721) 33 67109411) u) H := hP
  have hD : va_D A (mc_W0 h0 qc qm qr d (upd (upd ct 18 18721) 33 67109411) u) := hD
  refine lv_aload_n hx hb dX0_fillFetchAndDecode_19 rfl (lv_at hl 0 rfl) ?_
  refine va_get (D := (dC, dI)) (ci := 0) (v := .ref qc) (C := RX0) (T := TX0) (N := 11) hx hb hts in_X0 hown hK hP 0 rfl rfl 0 (by decide) (hts _ q75) (fun _ h9 => h9) rfl dX0_fillFetchAndDecode_20 ?_
  refine lv_bipush (v := 35) hx hb dX0_fillFetchAndDecode_23 (by decide) ?_
  refine lv_ldc (v := 33824) hx hb hown (hts _ q38) dX0_fillFetchAndDecode_25 ?_
  refine va_iast hx hb hK hP hD hS 1 0 rfl rfl (vp_in_nI (n := 35) (by decide) (by decide)) dX0_fillFetchAndDecode_27 (fun H locs hP hD hS => ?_)
  have hP : va_P (dC, dI) vwCl (mc_W0 h0 qc qm qr d (upd (upd (upd ct 18 18721) 33 67109411) 35 33824) u) H := hP
  have hD : va_D A (mc_W0 h0 qc qm qr d (upd (upd (upd ct 18 18721) 33 67109411) 35 33824) u) := hD
  refine lv_aload_n hx hb dX0_fillFetchAndDecode_28 rfl (lv_at hl 0 rfl) ?_
  refine va_get (D := (dC, dI)) (ci := 0) (v := .ref qc) (C := RX0) (T := TX0) (N := 11) hx hb hts in_X0 hown hK hP 0 rfl rfl 0 (by decide) (hts _ q75) (fun _ h9 => h9) rfl dX0_fillFetchAndDecode_29 ?_
  refine lv_bipush (v := 32) hx hb dX0_fillFetchAndDecode_32 (by decide) ?_
  refine lv_bipush (v := 64) hx hb dX0_fillFetchAndDecode_34 (by decide) ?_
  refine va_iast hx hb hK hP hD hS 1 0 rfl rfl (vp_in_nI (n := 32) (by decide) (by decide)) dX0_fillFetchAndDecode_36 (fun H locs hP hD hS => ?_)
  have hP : va_P (dC, dI) vwCl (mc_W0 h0 qc qm qr d (upd (upd (upd (upd ct 18 18721) 33 67109411) 35 33824) 32 64) u) H := hP
  have hD : va_D A (mc_W0 h0 qc qm qr d (upd (upd (upd (upd ct 18 18721) 33 67109411) 35 33824) 32 64) u) := hD
  exact W.vret hx hb hr (fun t ht hW => ⟨⟨(upd (upd (upd (upd ct 18 18721) 33 67109411) 35 33824) 32 64), rfl, rfl, by rw [ht]; exact hP, va_K.moved hW.alike hK, hD⟩, hS.F ht⟩) hS.2.2 dX0_fillFetchAndDecode_37
def ctF1 (ct : Nat → Int32) : Nat → Int32 := upd (upd (upd (upd ct 1 61458) 5 16838674) 9 33615890) 14 8466450
set_option maxHeartbeats 4000000 in
set_option maxRecDepth 100000 in
theorem met_fillArithmetic (l : Launch) (dC : Nat → ClassId) (dI : Nat → Nat → Nat) (h0 qc qm qr : Nat) (d : ClassId) (ct : Nat → Int32) (sz : Nat) (u : mc_S0) : Met l yX0_fillArithmetic (ws_ yX0_fillArithmetic cX0_fillArithmetic 1 none) ({ frames := 0, cells := 0, slots := 0, locals := 0 }) (va_Pc [.ref h0] (mc_P0 dC dI h0 qc qm qr d ct sz u)) (va_Qv (fun c' : Nat → Int32 => c' = ctF1 ct) (fun c' => mc_B0 dC dI (va_A (mc_W0 h0 qc qm qr d ct u) sz) h0 qc qm qr d c' u) (va_A (mc_W0 h0 qc qm qr d ct u) sz)) 0 0 (va_A (mc_W0 h0 qc qm qr d ct u) sz) := by
  refine Met.ofW (cc := cX0_fillArithmetic) (maxL := 1) (ret := none) (by decide) rfl ?_
  intro p e s m args below meth c s₁ B hml hv
  obtain ⟨rfl, hsz, hP, hK, hD0⟩ := hv
  have hx := B.exec
  have hb := B.bytes
  have hr := B.returns
  have hts := atoms_spec (ws := (ws_ yX0_fillArithmetic cX0_fillArithmetic 1 none)) B.pre
  have hts : ∀ w ∈ lw_all, w.before _ s = true := fun w h => hts w (List.mem_cons_of_mem _ h)
  have hown : s.vm.findClass RX0 = some m.cls := findClass_of_methodNamed B.named
  have hlocks := B.notSynchronized
  subst hsz
  have hD := hD0.self (sz := s.heap.size)
  generalize hAe : va_A (mc_W0 h0 qc qm qr d ct u) s.heap.size = A at hD ⊢
  have hA : ∀ q : Nat, s.heap.size ≤ q → A q := fun q h => by rw [← hAe]; exact Or.inr h
  have hS : va_S A s.heap s.heap [] := va_S.rf
  have hP : va_P (dC, dI) vwCl (mc_W0 h0 qc qm qr d ct u) s.heap := hP
  have hl := lv_entry ([.ref h0]) (n := 1) (Nat.le_of_ble_eq_true rfl)
  rw [lg_entry_eq]
  generalize (lg_sl ([.ref h0]) ++ List.replicate (1 - (lg_sl ([.ref h0])).length) Slot.unset).toArray = ls at hl ⊢
  have hl : lv_has ls 1 [(0, .ref h0)] := hl
  refine lv_aload_n hx hb dX0_fillArithmetic_0 rfl (lv_at hl 0 rfl) ?_
  refine va_get (D := (dC, dI)) (ci := 0) (v := .ref qc) (C := RX0) (T := TX0) (N := 11) hx hb hts in_X0 hown hK hP 0 rfl rfl 0 (by decide) (hts _ q75) (fun _ h9 => h9) rfl dX0_fillArithmetic_1 ?_
  refine lv_iconst (v := 1) hx hb dX0_fillArithmetic_4 (by decide) ?_
  refine lv_ldc (v := 61458) hx hb hown (hts _ q43) dX0_fillArithmetic_5 ?_
  refine va_iast hx hb hK hP hD hS 1 0 rfl rfl (vp_in_nI (n := 1) (by decide) (by decide)) dX0_fillArithmetic_7 (fun H locs hP hD hS => ?_)
  have hP : va_P (dC, dI) vwCl (mc_W0 h0 qc qm qr d (upd ct 1 61458) u) H := hP
  have hD : va_D A (mc_W0 h0 qc qm qr d (upd ct 1 61458) u) := hD
  refine lv_aload_n hx hb dX0_fillArithmetic_8 rfl (lv_at hl 0 rfl) ?_
  refine va_get (D := (dC, dI)) (ci := 0) (v := .ref qc) (C := RX0) (T := TX0) (N := 11) hx hb hts in_X0 hown hK hP 0 rfl rfl 0 (by decide) (hts _ q75) (fun _ h9 => h9) rfl dX0_fillArithmetic_9 ?_
  refine lv_iconst (v := 5) hx hb dX0_fillArithmetic_12 (by decide) ?_
  refine lv_ldc (v := 16838674) hx hb hown (hts _ q44) dX0_fillArithmetic_13 ?_
  refine va_iast hx hb hK hP hD hS 1 0 rfl rfl (vp_in_nI (n := 5) (by decide) (by decide)) dX0_fillArithmetic_15 (fun H locs hP hD hS => ?_)
  have hP : va_P (dC, dI) vwCl (mc_W0 h0 qc qm qr d (upd (upd ct 1 61458) 5 16838674) u) H := hP
  have hD : va_D A (mc_W0 h0 qc qm qr d (upd (upd ct 1 61458) 5 16838674) u) := hD
  refine lv_aload_n hx hb dX0_fillArithmetic_16 rfl (lv_at hl 0 rfl) ?_
  refine va_get (D := (dC, dI)) (ci := 0) (v := .ref qc) (C := RX0) (T := TX0) (N := 11) hx hb hts in_X0 hown hK hP 0 rfl rfl 0 (by decide) (hts _ q75) (fun _ h9 => h9) rfl dX0_fillArithmetic_17 ?_
  refine lv_bipush (v := 9) hx hb dX0_fillArithmetic_20 (by decide) ?_
  refine lv_ldc (v := 33615890) hx hb hown (hts _ q45) dX0_fillArithmetic_22 ?_
  refine va_iast hx hb hK hP hD hS 1 0 rfl rfl (vp_in_nI (n := 9) (by decide) (by decide)) dX0_fillArithmetic_24 (fun H locs hP hD hS => ?_)
  have hP : va_P (dC, dI) vwCl (mc_W0 h0 qc qm qr d (upd (upd (upd ct 1 61458) 5 16838674) 9 33615890) u) H := hP
  have hD : va_D A (mc_W0 h0 qc qm qr d (upd (upd (upd ct 1 61458) 5 16838674) 9 33615890) u) := hD
  refine lv_aload_n hx hb dX0_fillArithmetic_25 rfl (lv_at hl 0 rfl) ?_
  refine va_get (D := (dC, dI)) (ci := 0) (v := .ref qc) (C := RX0) (T := TX0) (N := 11) hx hb hts in_X0 hown hK hP 0 rfl rfl 0 (by decide) (hts _ q75) (fun _ h9 => h9) rfl dX0_fillArithmetic_26 ?_
  refine lv_bipush (v := 14) hx hb dX0_fillArithmetic_29 (by decide) ?_
  refine lv_ldc (v := 8466450) hx hb hown (hts _ q46) dX0_fillArithmetic_31 ?_
  refine va_iast hx hb hK hP hD hS 1 0 rfl rfl (vp_in_nI (n := 14) (by decide) (by decide)) dX0_fillArithmetic_33 (fun H locs hP hD hS => ?_)
  have hP : va_P (dC, dI) vwCl (mc_W0 h0 qc qm qr d (upd (upd (upd (upd ct 1 61458) 5 16838674) 9 33615890) 14 8466450) u) H := hP
  have hD : va_D A (mc_W0 h0 qc qm qr d (upd (upd (upd (upd ct 1 61458) 5 16838674) 9 33615890) 14 8466450) u) := hD
  exact W.vret hx hb hr (fun t ht hW => ⟨⟨(upd (upd (upd (upd ct 1 61458) 5 16838674) 9 33615890) 14 8466450), rfl, rfl, by rw [ht]; exact hP, va_K.moved hW.alike hK, hD⟩, hS.F ht⟩) hS.2.2 dX0_fillArithmetic_34
def ctF2 (ct : Nat → Int32) : Nat → Int32 := upd (upd (upd (upd (upd (upd (upd (upd (upd (upd (upd (upd (upd (upd ct 2 8454425) 6 6357273) 10 8454424) 24 67109402) 26 33049) 25 67109403) 27 45074) 3 8454423) 7 6357271) 11 8454429) 29 67109407) 31 33047) 23 51429904) 16 134217746
set_option maxHeartbeats 4000000 in
set_option maxRecDepth 100000 in
theorem met_fillMemory (l : Launch) (dC : Nat → ClassId) (dI : Nat → Nat → Nat) (h0 qc qm qr : Nat) (d : ClassId) (ct : Nat → Int32) (sz : Nat) (u : mc_S0) : Met l yX0_fillMemory (ws_ yX0_fillMemory cX0_fillMemory 1 none) ({ frames := 0, cells := 0, slots := 0, locals := 0 }) (va_Pc [.ref h0] (mc_P0 dC dI h0 qc qm qr d ct sz u)) (va_Qv (fun c' : Nat → Int32 => c' = ctF2 ct) (fun c' => mc_B0 dC dI (va_A (mc_W0 h0 qc qm qr d ct u) sz) h0 qc qm qr d c' u) (va_A (mc_W0 h0 qc qm qr d ct u) sz)) 0 0 (va_A (mc_W0 h0 qc qm qr d ct u) sz) := by
  refine Met.ofW (cc := cX0_fillMemory) (maxL := 1) (ret := none) (by decide) rfl ?_
  intro p e s m args below meth c s₁ B hml hv
  obtain ⟨rfl, hsz, hP, hK, hD0⟩ := hv
  have hx := B.exec
  have hb := B.bytes
  have hr := B.returns
  have hts := atoms_spec (ws := (ws_ yX0_fillMemory cX0_fillMemory 1 none)) B.pre
  have hts : ∀ w ∈ lw_all, w.before _ s = true := fun w h => hts w (List.mem_cons_of_mem _ h)
  have hown : s.vm.findClass RX0 = some m.cls := findClass_of_methodNamed B.named
  have hlocks := B.notSynchronized
  subst hsz
  have hD := hD0.self (sz := s.heap.size)
  generalize hAe : va_A (mc_W0 h0 qc qm qr d ct u) s.heap.size = A at hD ⊢
  have hA : ∀ q : Nat, s.heap.size ≤ q → A q := fun q h => by rw [← hAe]; exact Or.inr h
  have hS : va_S A s.heap s.heap [] := va_S.rf
  have hP : va_P (dC, dI) vwCl (mc_W0 h0 qc qm qr d ct u) s.heap := hP
  have hl := lv_entry ([.ref h0]) (n := 1) (Nat.le_of_ble_eq_true rfl)
  rw [lg_entry_eq]
  generalize (lg_sl ([.ref h0]) ++ List.replicate (1 - (lg_sl ([.ref h0])).length) Slot.unset).toArray = ls at hl ⊢
  have hl : lv_has ls 1 [(0, .ref h0)] := hl
  refine lv_aload_n hx hb dX0_fillMemory_0 rfl (lv_at hl 0 rfl) ?_
  refine va_get (D := (dC, dI)) (ci := 0) (v := .ref qc) (C := RX0) (T := TX0) (N := 11) hx hb hts in_X0 hown hK hP 0 rfl rfl 0 (by decide) (hts _ q75) (fun _ h9 => h9) rfl dX0_fillMemory_1 ?_
  refine lv_iconst (v := 2) hx hb dX0_fillMemory_4 (by decide) ?_
  refine lv_ldc (v := 8454425) hx hb hown (hts _ q51) dX0_fillMemory_5 ?_
  refine va_iast hx hb hK hP hD hS 1 0 rfl rfl (vp_in_nI (n := 2) (by decide) (by decide)) dX0_fillMemory_7 (fun H locs hP hD hS => ?_)
  have hP : va_P (dC, dI) vwCl (mc_W0 h0 qc qm qr d (upd ct 2 8454425) u) H := hP
  have hD : va_D A (mc_W0 h0 qc qm qr d (upd ct 2 8454425) u) := hD
  refine lv_aload_n hx hb dX0_fillMemory_8 rfl (lv_at hl 0 rfl) ?_
  refine va_get (D := (dC, dI)) (ci := 0) (v := .ref qc) (C := RX0) (T := TX0) (N := 11) hx hb hts in_X0 hown hK hP 0 rfl rfl 0 (by decide) (hts _ q75) (fun _ h9 => h9) rfl dX0_fillMemory_9 ?_
  refine lv_bipush (v := 6) hx hb dX0_fillMemory_12 (by decide) ?_
  refine lv_ldc (v := 6357273) hx hb hown (hts _ q52) dX0_fillMemory_14 ?_
  refine va_iast hx hb hK hP hD hS 1 0 rfl rfl (vp_in_nI (n := 6) (by decide) (by decide)) dX0_fillMemory_16 (fun H locs hP hD hS => ?_)
  have hP : va_P (dC, dI) vwCl (mc_W0 h0 qc qm qr d (upd (upd ct 2 8454425) 6 6357273) u) H := hP
  have hD : va_D A (mc_W0 h0 qc qm qr d (upd (upd ct 2 8454425) 6 6357273) u) := hD
  refine lv_aload_n hx hb dX0_fillMemory_17 rfl (lv_at hl 0 rfl) ?_
  refine va_get (D := (dC, dI)) (ci := 0) (v := .ref qc) (C := RX0) (T := TX0) (N := 11) hx hb hts in_X0 hown hK hP 0 rfl rfl 0 (by decide) (hts _ q75) (fun _ h9 => h9) rfl dX0_fillMemory_18 ?_
  refine lv_bipush (v := 10) hx hb dX0_fillMemory_21 (by decide) ?_
  refine lv_ldc (v := 8454424) hx hb hown (hts _ q53) dX0_fillMemory_23 ?_
  refine va_iast hx hb hK hP hD hS 1 0 rfl rfl (vp_in_nI (n := 10) (by decide) (by decide)) dX0_fillMemory_25 (fun H locs hP hD hS => ?_)
  have hP : va_P (dC, dI) vwCl (mc_W0 h0 qc qm qr d (upd (upd (upd ct 2 8454425) 6 6357273) 10 8454424) u) H := hP
  have hD : va_D A (mc_W0 h0 qc qm qr d (upd (upd (upd ct 2 8454425) 6 6357273) 10 8454424) u) := hD
  refine lv_aload_n hx hb dX0_fillMemory_26 rfl (lv_at hl 0 rfl) ?_
  refine va_get (D := (dC, dI)) (ci := 0) (v := .ref qc) (C := RX0) (T := TX0) (N := 11) hx hb hts in_X0 hown hK hP 0 rfl rfl 0 (by decide) (hts _ q75) (fun _ h9 => h9) rfl dX0_fillMemory_27 ?_
  refine lv_bipush (v := 24) hx hb dX0_fillMemory_30 (by decide) ?_
  refine lv_ldc (v := 67109402) hx hb hown (hts _ q54) dX0_fillMemory_32 ?_
  refine va_iast hx hb hK hP hD hS 1 0 rfl rfl (vp_in_nI (n := 24) (by decide) (by decide)) dX0_fillMemory_34 (fun H locs hP hD hS => ?_)
  have hP : va_P (dC, dI) vwCl (mc_W0 h0 qc qm qr d (upd (upd (upd (upd ct 2 8454425) 6 6357273) 10 8454424) 24 67109402) u) H := hP
  have hD : va_D A (mc_W0 h0 qc qm qr d (upd (upd (upd (upd ct 2 8454425) 6 6357273) 10 8454424) 24 67109402) u) := hD
  refine lv_aload_n hx hb dX0_fillMemory_35 rfl (lv_at hl 0 rfl) ?_
  refine va_get (D := (dC, dI)) (ci := 0) (v := .ref qc) (C := RX0) (T := TX0) (N := 11) hx hb hts in_X0 hown hK hP 0 rfl rfl 0 (by decide) (hts _ q75) (fun _ h9 => h9) rfl dX0_fillMemory_36 ?_
  refine lv_bipush (v := 26) hx hb dX0_fillMemory_39 (by decide) ?_
  refine lv_ldc (v := 33049) hx hb hown (hts _ q55) dX0_fillMemory_41 ?_
  refine va_iast hx hb hK hP hD hS 1 0 rfl rfl (vp_in_nI (n := 26) (by decide) (by decide)) dX0_fillMemory_43 (fun H locs hP hD hS => ?_)
  have hP : va_P (dC, dI) vwCl (mc_W0 h0 qc qm qr d (upd (upd (upd (upd (upd ct 2 8454425) 6 6357273) 10 8454424) 24 67109402) 26 33049) u) H := hP
  have hD : va_D A (mc_W0 h0 qc qm qr d (upd (upd (upd (upd (upd ct 2 8454425) 6 6357273) 10 8454424) 24 67109402) 26 33049) u) := hD
  refine lv_aload_n hx hb dX0_fillMemory_44 rfl (lv_at hl 0 rfl) ?_
  refine va_get (D := (dC, dI)) (ci := 0) (v := .ref qc) (C := RX0) (T := TX0) (N := 11) hx hb hts in_X0 hown hK hP 0 rfl rfl 0 (by decide) (hts _ q75) (fun _ h9 => h9) rfl dX0_fillMemory_45 ?_
  refine lv_bipush (v := 25) hx hb dX0_fillMemory_48 (by decide) ?_
  refine lv_ldc (v := 67109403) hx hb hown (hts _ q56) dX0_fillMemory_50 ?_
  refine va_iast hx hb hK hP hD hS 1 0 rfl rfl (vp_in_nI (n := 25) (by decide) (by decide)) dX0_fillMemory_52 (fun H locs hP hD hS => ?_)
  have hP : va_P (dC, dI) vwCl (mc_W0 h0 qc qm qr d (upd (upd (upd (upd (upd (upd ct 2 8454425) 6 6357273) 10 8454424) 24 67109402) 26 33049) 25 67109403) u) H := hP
  have hD : va_D A (mc_W0 h0 qc qm qr d (upd (upd (upd (upd (upd (upd ct 2 8454425) 6 6357273) 10 8454424) 24 67109402) 26 33049) 25 67109403) u) := hD
  refine lv_aload_n hx hb dX0_fillMemory_53 rfl (lv_at hl 0 rfl) ?_
  refine va_get (D := (dC, dI)) (ci := 0) (v := .ref qc) (C := RX0) (T := TX0) (N := 11) hx hb hts in_X0 hown hK hP 0 rfl rfl 0 (by decide) (hts _ q75) (fun _ h9 => h9) rfl dX0_fillMemory_54 ?_
  refine lv_bipush (v := 27) hx hb dX0_fillMemory_57 (by decide) ?_
  refine lv_ldc (v := 45074) hx hb hown (hts _ q57) dX0_fillMemory_59 ?_
  refine va_iast hx hb hK hP hD hS 1 0 rfl rfl (vp_in_nI (n := 27) (by decide) (by decide)) dX0_fillMemory_61 (fun H locs hP hD hS => ?_)
  have hP : va_P (dC, dI) vwCl (mc_W0 h0 qc qm qr d (upd (upd (upd (upd (upd (upd (upd ct 2 8454425) 6 6357273) 10 8454424) 24 67109402) 26 33049) 25 67109403) 27 45074) u) H := hP
  have hD : va_D A (mc_W0 h0 qc qm qr d (upd (upd (upd (upd (upd (upd (upd ct 2 8454425) 6 6357273) 10 8454424) 24 67109402) 26 33049) 25 67109403) 27 45074) u) := hD
  refine lv_aload_n hx hb dX0_fillMemory_62 rfl (lv_at hl 0 rfl) ?_
  refine va_get (D := (dC, dI)) (ci := 0) (v := .ref qc) (C := RX0) (T := TX0) (N := 11) hx hb hts in_X0 hown hK hP 0 rfl rfl 0 (by decide) (hts _ q75) (fun _ h9 => h9) rfl dX0_fillMemory_63 ?_
  refine lv_iconst (v := 3) hx hb dX0_fillMemory_66 (by decide) ?_
  refine lv_ldc (v := 8454423) hx hb hown (hts _ q58) dX0_fillMemory_67 ?_
  refine va_iast hx hb hK hP hD hS 1 0 rfl rfl (vp_in_nI (n := 3) (by decide) (by decide)) dX0_fillMemory_69 (fun H locs hP hD hS => ?_)
  have hP : va_P (dC, dI) vwCl (mc_W0 h0 qc qm qr d (upd (upd (upd (upd (upd (upd (upd (upd ct 2 8454425) 6 6357273) 10 8454424) 24 67109402) 26 33049) 25 67109403) 27 45074) 3 8454423) u) H := hP
  have hD : va_D A (mc_W0 h0 qc qm qr d (upd (upd (upd (upd (upd (upd (upd (upd ct 2 8454425) 6 6357273) 10 8454424) 24 67109402) 26 33049) 25 67109403) 27 45074) 3 8454423) u) := hD
  refine lv_aload_n hx hb dX0_fillMemory_70 rfl (lv_at hl 0 rfl) ?_
  refine va_get (D := (dC, dI)) (ci := 0) (v := .ref qc) (C := RX0) (T := TX0) (N := 11) hx hb hts in_X0 hown hK hP 0 rfl rfl 0 (by decide) (hts _ q75) (fun _ h9 => h9) rfl dX0_fillMemory_71 ?_
  refine lv_bipush (v := 7) hx hb dX0_fillMemory_74 (by decide) ?_
  refine lv_ldc (v := 6357271) hx hb hown (hts _ q59) dX0_fillMemory_76 ?_
  refine va_iast hx hb hK hP hD hS 1 0 rfl rfl (vp_in_nI (n := 7) (by decide) (by decide)) dX0_fillMemory_78 (fun H locs hP hD hS => ?_)
  have hP : va_P (dC, dI) vwCl (mc_W0 h0 qc qm qr d (upd (upd (upd (upd (upd (upd (upd (upd (upd ct 2 8454425) 6 6357273) 10 8454424) 24 67109402) 26 33049) 25 67109403) 27 45074) 3 8454423) 7 6357271) u) H := hP
  have hD : va_D A (mc_W0 h0 qc qm qr d (upd (upd (upd (upd (upd (upd (upd (upd (upd ct 2 8454425) 6 6357273) 10 8454424) 24 67109402) 26 33049) 25 67109403) 27 45074) 3 8454423) 7 6357271) u) := hD
  refine lv_aload_n hx hb dX0_fillMemory_79 rfl (lv_at hl 0 rfl) ?_
  refine va_get (D := (dC, dI)) (ci := 0) (v := .ref qc) (C := RX0) (T := TX0) (N := 11) hx hb hts in_X0 hown hK hP 0 rfl rfl 0 (by decide) (hts _ q75) (fun _ h9 => h9) rfl dX0_fillMemory_80 ?_
  refine lv_bipush (v := 11) hx hb dX0_fillMemory_83 (by decide) ?_
  refine lv_ldc (v := 8454429) hx hb hown (hts _ q60) dX0_fillMemory_85 ?_
  refine va_iast hx hb hK hP hD hS 1 0 rfl rfl (vp_in_nI (n := 11) (by decide) (by decide)) dX0_fillMemory_87 (fun H locs hP hD hS => ?_)
  have hP : va_P (dC, dI) vwCl (mc_W0 h0 qc qm qr d (upd (upd (upd (upd (upd (upd (upd (upd (upd (upd ct 2 8454425) 6 6357273) 10 8454424) 24 67109402) 26 33049) 25 67109403) 27 45074) 3 8454423) 7 6357271) 11 8454429) u) H := hP
  have hD : va_D A (mc_W0 h0 qc qm qr d (upd (upd (upd (upd (upd (upd (upd (upd (upd (upd ct 2 8454425) 6 6357273) 10 8454424) 24 67109402) 26 33049) 25 67109403) 27 45074) 3 8454423) 7 6357271) 11 8454429) u) := hD
  refine lv_aload_n hx hb dX0_fillMemory_88 rfl (lv_at hl 0 rfl) ?_
  refine va_get (D := (dC, dI)) (ci := 0) (v := .ref qc) (C := RX0) (T := TX0) (N := 11) hx hb hts in_X0 hown hK hP 0 rfl rfl 0 (by decide) (hts _ q75) (fun _ h9 => h9) rfl dX0_fillMemory_89 ?_
  refine lv_bipush (v := 29) hx hb dX0_fillMemory_92 (by decide) ?_
  refine lv_ldc (v := 67109407) hx hb hown (hts _ q61) dX0_fillMemory_94 ?_
  refine va_iast hx hb hK hP hD hS 1 0 rfl rfl (vp_in_nI (n := 29) (by decide) (by decide)) dX0_fillMemory_96 (fun H locs hP hD hS => ?_)
  have hP : va_P (dC, dI) vwCl (mc_W0 h0 qc qm qr d (upd (upd (upd (upd (upd (upd (upd (upd (upd (upd (upd ct 2 8454425) 6 6357273) 10 8454424) 24 67109402) 26 33049) 25 67109403) 27 45074) 3 8454423) 7 6357271) 11 8454429) 29 67109407) u) H := hP
  have hD : va_D A (mc_W0 h0 qc qm qr d (upd (upd (upd (upd (upd (upd (upd (upd (upd (upd (upd ct 2 8454425) 6 6357273) 10 8454424) 24 67109402) 26 33049) 25 67109403) 27 45074) 3 8454423) 7 6357271) 11 8454429) 29 67109407) u) := hD
  refine lv_aload_n hx hb dX0_fillMemory_97 rfl (lv_at hl 0 rfl) ?_
  refine va_get (D := (dC, dI)) (ci := 0) (v := .ref qc) (C := RX0) (T := TX0) (N := 11) hx hb hts in_X0 hown hK hP 0 rfl rfl 0 (by decide) (hts _ q75) (fun _ h9 => h9) rfl dX0_fillMemory_98 ?_
  refine lv_bipush (v := 31) hx hb dX0_fillMemory_101 (by decide) ?_
  refine lv_ldc (v := 33047) hx hb hown (hts _ q62) dX0_fillMemory_103 ?_
  refine va_iast hx hb hK hP hD hS 1 0 rfl rfl (vp_in_nI (n := 31) (by decide) (by decide)) dX0_fillMemory_105 (fun H locs hP hD hS => ?_)
  have hP : va_P (dC, dI) vwCl (mc_W0 h0 qc qm qr d (upd (upd (upd (upd (upd (upd (upd (upd (upd (upd (upd (upd ct 2 8454425) 6 6357273) 10 8454424) 24 67109402) 26 33049) 25 67109403) 27 45074) 3 8454423) 7 6357271) 11 8454429) 29 67109407) 31 33047) u) H := hP
  have hD : va_D A (mc_W0 h0 qc qm qr d (upd (upd (upd (upd (upd (upd (upd (upd (upd (upd (upd (upd ct 2 8454425) 6 6357273) 10 8454424) 24 67109402) 26 33049) 25 67109403) 27 45074) 3 8454423) 7 6357271) 11 8454429) 29 67109407) 31 33047) u) := hD
  refine lv_aload_n hx hb dX0_fillMemory_106 rfl (lv_at hl 0 rfl) ?_
  refine va_get (D := (dC, dI)) (ci := 0) (v := .ref qc) (C := RX0) (T := TX0) (N := 11) hx hb hts in_X0 hown hK hP 0 rfl rfl 0 (by decide) (hts _ q75) (fun _ h9 => h9) rfl dX0_fillMemory_107 ?_
  refine lv_bipush (v := 23) hx hb dX0_fillMemory_110 (by decide) ?_
  refine lv_ldc (v := 51429904) hx hb hown (hts _ q63) dX0_fillMemory_112 ?_
  refine va_iast hx hb hK hP hD hS 1 0 rfl rfl (vp_in_nI (n := 23) (by decide) (by decide)) dX0_fillMemory_114 (fun H locs hP hD hS => ?_)
  have hP : va_P (dC, dI) vwCl (mc_W0 h0 qc qm qr d (upd (upd (upd (upd (upd (upd (upd (upd (upd (upd (upd (upd (upd ct 2 8454425) 6 6357273) 10 8454424) 24 67109402) 26 33049) 25 67109403) 27 45074) 3 8454423) 7 6357271) 11 8454429) 29 67109407) 31 33047) 23 51429904) u) H := hP
  have hD : va_D A (mc_W0 h0 qc qm qr d (upd (upd (upd (upd (upd (upd (upd (upd (upd (upd (upd (upd (upd ct 2 8454425) 6 6357273) 10 8454424) 24 67109402) 26 33049) 25 67109403) 27 45074) 3 8454423) 7 6357271) 11 8454429) 29 67109407) 31 33047) 23 51429904) u) := hD
  refine lv_aload_n hx hb dX0_fillMemory_115 rfl (lv_at hl 0 rfl) ?_
  refine va_get (D := (dC, dI)) (ci := 0) (v := .ref qc) (C := RX0) (T := TX0) (N := 11) hx hb hts in_X0 hown hK hP 0 rfl rfl 0 (by decide) (hts _ q75) (fun _ h9 => h9) rfl dX0_fillMemory_116 ?_
  refine lv_bipush (v := 16) hx hb dX0_fillMemory_119 (by decide) ?_
  refine lv_ldc (v := 134217746) hx hb hown (hts _ q64) dX0_fillMemory_121 ?_
  refine va_iast hx hb hK hP hD hS 1 0 rfl rfl (vp_in_nI (n := 16) (by decide) (by decide)) dX0_fillMemory_123 (fun H locs hP hD hS => ?_)
  have hP : va_P (dC, dI) vwCl (mc_W0 h0 qc qm qr d (upd (upd (upd (upd (upd (upd (upd (upd (upd (upd (upd (upd (upd (upd ct 2 8454425) 6 6357273) 10 8454424) 24 67109402) 26 33049) 25 67109403) 27 45074) 3 8454423) 7 6357271) 11 8454429) 29 67109407) 31 33047) 23 51429904) 16 134217746) u) H := hP
  have hD : va_D A (mc_W0 h0 qc qm qr d (upd (upd (upd (upd (upd (upd (upd (upd (upd (upd (upd (upd (upd (upd ct 2 8454425) 6 6357273) 10 8454424) 24 67109402) 26 33049) 25 67109403) 27 45074) 3 8454423) 7 6357271) 11 8454429) 29 67109407) 31 33047) 23 51429904) 16 134217746) u) := hD
  exact W.vret hx hb hr (fun t ht hW => ⟨⟨(upd (upd (upd (upd (upd (upd (upd (upd (upd (upd (upd (upd (upd (upd ct 2 8454425) 6 6357273) 10 8454424) 24 67109402) 26 33049) 25 67109403) 27 45074) 3 8454423) 7 6357271) 11 8454429) 29 67109407) 31 33047) 23 51429904) 16 134217746), rfl, rfl, by rw [ht]; exact hP, va_K.moved hW.alike hK, hD⟩, hS.F ht⟩) hS.2.2 dX0_fillMemory_124
def ctF3 (ct : Nat → Int32) : Nat → Int32 := upd (upd (upd (upd (upd (upd (upd (upd (upd ct 0 146) 22 8652818) 12 2361362) 4 212) 20 2906130) 21 13391890) 15 268435474) 8 536870930) 13 536870930
set_option maxHeartbeats 4000000 in
set_option maxRecDepth 100000 in
theorem met_fillFlow (l : Launch) (dC : Nat → ClassId) (dI : Nat → Nat → Nat) (h0 qc qm qr : Nat) (d : ClassId) (ct : Nat → Int32) (sz : Nat) (u : mc_S0) : Met l yX0_fillFlow (ws_ yX0_fillFlow cX0_fillFlow 1 none) ({ frames := 0, cells := 0, slots := 0, locals := 0 }) (va_Pc [.ref h0] (mc_P0 dC dI h0 qc qm qr d ct sz u)) (va_Qv (fun c' : Nat → Int32 => c' = ctF3 ct) (fun c' => mc_B0 dC dI (va_A (mc_W0 h0 qc qm qr d ct u) sz) h0 qc qm qr d c' u) (va_A (mc_W0 h0 qc qm qr d ct u) sz)) 0 0 (va_A (mc_W0 h0 qc qm qr d ct u) sz) := by
  refine Met.ofW (cc := cX0_fillFlow) (maxL := 1) (ret := none) (by decide) rfl ?_
  intro p e s m args below meth c s₁ B hml hv
  obtain ⟨rfl, hsz, hP, hK, hD0⟩ := hv
  have hx := B.exec
  have hb := B.bytes
  have hr := B.returns
  have hts := atoms_spec (ws := (ws_ yX0_fillFlow cX0_fillFlow 1 none)) B.pre
  have hts : ∀ w ∈ lw_all, w.before _ s = true := fun w h => hts w (List.mem_cons_of_mem _ h)
  have hown : s.vm.findClass RX0 = some m.cls := findClass_of_methodNamed B.named
  have hlocks := B.notSynchronized
  subst hsz
  have hD := hD0.self (sz := s.heap.size)
  generalize hAe : va_A (mc_W0 h0 qc qm qr d ct u) s.heap.size = A at hD ⊢
  have hA : ∀ q : Nat, s.heap.size ≤ q → A q := fun q h => by rw [← hAe]; exact Or.inr h
  have hS : va_S A s.heap s.heap [] := va_S.rf
  have hP : va_P (dC, dI) vwCl (mc_W0 h0 qc qm qr d ct u) s.heap := hP
  have hl := lv_entry ([.ref h0]) (n := 1) (Nat.le_of_ble_eq_true rfl)
  rw [lg_entry_eq]
  generalize (lg_sl ([.ref h0]) ++ List.replicate (1 - (lg_sl ([.ref h0])).length) Slot.unset).toArray = ls at hl ⊢
  have hl : lv_has ls 1 [(0, .ref h0)] := hl
  refine lv_aload_n hx hb dX0_fillFlow_0 rfl (lv_at hl 0 rfl) ?_
  refine va_get (D := (dC, dI)) (ci := 0) (v := .ref qc) (C := RX0) (T := TX0) (N := 11) hx hb hts in_X0 hown hK hP 0 rfl rfl 0 (by decide) (hts _ q75) (fun _ h9 => h9) rfl dX0_fillFlow_1 ?_
  refine lv_iconst (v := 0) hx hb dX0_fillFlow_4 (by decide) ?_
  refine lv_sipush (v := 146) hx hb dX0_fillFlow_5 (by decide) ?_
  refine va_iast hx hb hK hP hD hS 1 0 rfl rfl (vp_in_nI (n := 0) (by decide) (by decide)) dX0_fillFlow_8 (fun H locs hP hD hS => ?_)
  have hP : va_P (dC, dI) vwCl (mc_W0 h0 qc qm qr d (upd ct 0 146) u) H := hP
  have hD : va_D A (mc_W0 h0 qc qm qr d (upd ct 0 146) u) := hD
  refine lv_aload_n hx hb dX0_fillFlow_9 rfl (lv_at hl 0 rfl) ?_
  refine va_get (D := (dC, dI)) (ci := 0) (v := .ref qc) (C := RX0) (T := TX0) (N := 11) hx hb hts in_X0 hown hK hP 0 rfl rfl 0 (by decide) (hts _ q75) (fun _ h9 => h9) rfl dX0_fillFlow_10 ?_
  refine lv_bipush (v := 22) hx hb dX0_fillFlow_13 (by decide) ?_
  refine lv_ldc (v := 8652818) hx hb hown (hts _ q69) dX0_fillFlow_15 ?_
  refine va_iast hx hb hK hP hD hS 1 0 rfl rfl (vp_in_nI (n := 22) (by decide) (by decide)) dX0_fillFlow_17 (fun H locs hP hD hS => ?_)
  have hP : va_P (dC, dI) vwCl (mc_W0 h0 qc qm qr d (upd (upd ct 0 146) 22 8652818) u) H := hP
  have hD : va_D A (mc_W0 h0 qc qm qr d (upd (upd ct 0 146) 22 8652818) u) := hD
  refine lv_aload_n hx hb dX0_fillFlow_18 rfl (lv_at hl 0 rfl) ?_
  refine va_get (D := (dC, dI)) (ci := 0) (v := .ref qc) (C := RX0) (T := TX0) (N := 11) hx hb hts in_X0 hown hK hP 0 rfl rfl 0 (by decide) (hts _ q75) (fun _ h9 => h9) rfl dX0_fillFlow_19 ?_
  refine lv_bipush (v := 12) hx hb dX0_fillFlow_22 (by decide) ?_
  refine lv_ldc (v := 2361362) hx hb hown (hts _ q70) dX0_fillFlow_24 ?_
  refine va_iast hx hb hK hP hD hS 1 0 rfl rfl (vp_in_nI (n := 12) (by decide) (by decide)) dX0_fillFlow_26 (fun H locs hP hD hS => ?_)
  have hP : va_P (dC, dI) vwCl (mc_W0 h0 qc qm qr d (upd (upd (upd ct 0 146) 22 8652818) 12 2361362) u) H := hP
  have hD : va_D A (mc_W0 h0 qc qm qr d (upd (upd (upd ct 0 146) 22 8652818) 12 2361362) u) := hD
  refine lv_aload_n hx hb dX0_fillFlow_27 rfl (lv_at hl 0 rfl) ?_
  refine va_get (D := (dC, dI)) (ci := 0) (v := .ref qc) (C := RX0) (T := TX0) (N := 11) hx hb hts in_X0 hown hK hP 0 rfl rfl 0 (by decide) (hts _ q75) (fun _ h9 => h9) rfl dX0_fillFlow_28 ?_
  refine lv_iconst (v := 4) hx hb dX0_fillFlow_31 (by decide) ?_
  refine lv_sipush (v := 212) hx hb dX0_fillFlow_32 (by decide) ?_
  refine va_iast hx hb hK hP hD hS 1 0 rfl rfl (vp_in_nI (n := 4) (by decide) (by decide)) dX0_fillFlow_35 (fun H locs hP hD hS => ?_)
  have hP : va_P (dC, dI) vwCl (mc_W0 h0 qc qm qr d (upd (upd (upd (upd ct 0 146) 22 8652818) 12 2361362) 4 212) u) H := hP
  have hD : va_D A (mc_W0 h0 qc qm qr d (upd (upd (upd (upd ct 0 146) 22 8652818) 12 2361362) 4 212) u) := hD
  refine lv_aload_n hx hb dX0_fillFlow_36 rfl (lv_at hl 0 rfl) ?_
  refine va_get (D := (dC, dI)) (ci := 0) (v := .ref qc) (C := RX0) (T := TX0) (N := 11) hx hb hts in_X0 hown hK hP 0 rfl rfl 0 (by decide) (hts _ q75) (fun _ h9 => h9) rfl dX0_fillFlow_37 ?_
  refine lv_bipush (v := 20) hx hb dX0_fillFlow_40 (by decide) ?_
  refine lv_ldc (v := 2906130) hx hb hown (hts _ q71) dX0_fillFlow_42 ?_
  refine va_iast hx hb hK hP hD hS 1 0 rfl rfl (vp_in_nI (n := 20) (by decide) (by decide)) dX0_fillFlow_44 (fun H locs hP hD hS => ?_)
  have hP : va_P (dC, dI) vwCl (mc_W0 h0 qc qm qr d (upd (upd (upd (upd (upd ct 0 146) 22 8652818) 12 2361362) 4 212) 20 2906130) u) H := hP
  have hD : va_D A (mc_W0 h0 qc qm qr d (upd (upd (upd (upd (upd ct 0 146) 22 8652818) 12 2361362) 4 212) 20 2906130) u) := hD
  refine lv_aload_n hx hb dX0_fillFlow_45 rfl (lv_at hl 0 rfl) ?_
  refine va_get (D := (dC, dI)) (ci := 0) (v := .ref qc) (C := RX0) (T := TX0) (N := 11) hx hb hts in_X0 hown hK hP 0 rfl rfl 0 (by decide) (hts _ q75) (fun _ h9 => h9) rfl dX0_fillFlow_46 ?_
  refine lv_bipush (v := 21) hx hb dX0_fillFlow_49 (by decide) ?_
  refine lv_ldc (v := 13391890) hx hb hown (hts _ q72) dX0_fillFlow_51 ?_
  refine va_iast hx hb hK hP hD hS 1 0 rfl rfl (vp_in_nI (n := 21) (by decide) (by decide)) dX0_fillFlow_53 (fun H locs hP hD hS => ?_)
  have hP : va_P (dC, dI) vwCl (mc_W0 h0 qc qm qr d (upd (upd (upd (upd (upd (upd ct 0 146) 22 8652818) 12 2361362) 4 212) 20 2906130) 21 13391890) u) H := hP
  have hD : va_D A (mc_W0 h0 qc qm qr d (upd (upd (upd (upd (upd (upd ct 0 146) 22 8652818) 12 2361362) 4 212) 20 2906130) 21 13391890) u) := hD
  refine lv_aload_n hx hb dX0_fillFlow_54 rfl (lv_at hl 0 rfl) ?_
  refine va_get (D := (dC, dI)) (ci := 0) (v := .ref qc) (C := RX0) (T := TX0) (N := 11) hx hb hts in_X0 hown hK hP 0 rfl rfl 0 (by decide) (hts _ q75) (fun _ h9 => h9) rfl dX0_fillFlow_55 ?_
  refine lv_bipush (v := 15) hx hb dX0_fillFlow_58 (by decide) ?_
  refine lv_ldc (v := 268435474) hx hb hown (hts _ q73) dX0_fillFlow_60 ?_
  refine va_iast hx hb hK hP hD hS 1 0 rfl rfl (vp_in_nI (n := 15) (by decide) (by decide)) dX0_fillFlow_62 (fun H locs hP hD hS => ?_)
  have hP : va_P (dC, dI) vwCl (mc_W0 h0 qc qm qr d (upd (upd (upd (upd (upd (upd (upd ct 0 146) 22 8652818) 12 2361362) 4 212) 20 2906130) 21 13391890) 15 268435474) u) H := hP
  have hD : va_D A (mc_W0 h0 qc qm qr d (upd (upd (upd (upd (upd (upd (upd ct 0 146) 22 8652818) 12 2361362) 4 212) 20 2906130) 21 13391890) 15 268435474) u) := hD
  refine lv_aload_n hx hb dX0_fillFlow_63 rfl (lv_at hl 0 rfl) ?_
  refine va_get (D := (dC, dI)) (ci := 0) (v := .ref qc) (C := RX0) (T := TX0) (N := 11) hx hb hts in_X0 hown hK hP 0 rfl rfl 0 (by decide) (hts _ q75) (fun _ h9 => h9) rfl dX0_fillFlow_64 ?_
  refine lv_bipush (v := 8) hx hb dX0_fillFlow_67 (by decide) ?_
  refine lv_ldc (v := 536870930) hx hb hown (hts _ q74) dX0_fillFlow_69 ?_
  refine va_iast hx hb hK hP hD hS 1 0 rfl rfl (vp_in_nI (n := 8) (by decide) (by decide)) dX0_fillFlow_71 (fun H locs hP hD hS => ?_)
  have hP : va_P (dC, dI) vwCl (mc_W0 h0 qc qm qr d (upd (upd (upd (upd (upd (upd (upd (upd ct 0 146) 22 8652818) 12 2361362) 4 212) 20 2906130) 21 13391890) 15 268435474) 8 536870930) u) H := hP
  have hD : va_D A (mc_W0 h0 qc qm qr d (upd (upd (upd (upd (upd (upd (upd (upd ct 0 146) 22 8652818) 12 2361362) 4 212) 20 2906130) 21 13391890) 15 268435474) 8 536870930) u) := hD
  refine lv_aload_n hx hb dX0_fillFlow_72 rfl (lv_at hl 0 rfl) ?_
  refine va_get (D := (dC, dI)) (ci := 0) (v := .ref qc) (C := RX0) (T := TX0) (N := 11) hx hb hts in_X0 hown hK hP 0 rfl rfl 0 (by decide) (hts _ q75) (fun _ h9 => h9) rfl dX0_fillFlow_73 ?_
  refine lv_bipush (v := 13) hx hb dX0_fillFlow_76 (by decide) ?_
  refine lv_ldc (v := 536870930) hx hb hown (hts _ q74) dX0_fillFlow_78 ?_
  refine va_iast hx hb hK hP hD hS 1 0 rfl rfl (vp_in_nI (n := 13) (by decide) (by decide)) dX0_fillFlow_80 (fun H locs hP hD hS => ?_)
  have hP : va_P (dC, dI) vwCl (mc_W0 h0 qc qm qr d (upd (upd (upd (upd (upd (upd (upd (upd (upd ct 0 146) 22 8652818) 12 2361362) 4 212) 20 2906130) 21 13391890) 15 268435474) 8 536870930) 13 536870930) u) H := hP
  have hD : va_D A (mc_W0 h0 qc qm qr d (upd (upd (upd (upd (upd (upd (upd (upd (upd ct 0 146) 22 8652818) 12 2361362) 4 212) 20 2906130) 21 13391890) 15 268435474) 8 536870930) 13 536870930) u) := hD
  exact W.vret hx hb hr (fun t ht hW => ⟨⟨(upd (upd (upd (upd (upd (upd (upd (upd (upd ct 0 146) 22 8652818) 12 2361362) 4 212) 20 2906130) 21 13391890) 15 268435474) 8 536870930) 13 536870930), rfl, rfl, by rw [ht]; exact hP, va_K.moved hW.alike hK, hD⟩, hS.F ht⟩) hS.2.2 dX0_fillFlow_81
def ct0 : Nat → Int32 := ctF3 (ctF2 (ctF1 (ctF0 (fun _ => 0))))
def mc_u0 : mc_S0 := (fun _ => 0, fun _ => 0, 0, 2, 0, 0, 18, 0, 0, 0)
theorem wf_0 {p : Program} {l : Launch} {e : Env} {R : Room} {s : State} {m : MethodId} {args : Array Value} {below : List Frame} {meth : Method} {c : Code} {H : Heap} {locs : List Loc} {cells slots : Nat} {Q : State → Prop} {cc : ByteArray} {pc nL : Nat} {ls : Array Slot} {rest : List Value} {dC : Nat → ClassId} {dI : Nat → Nat → Nat} {h0 qc qm qr : Nat} {d : ClassId} {ct ct1 : Nat → Int32} {u : mc_S0} {A : Nat → Prop} {H0 : Heap} {y : MethodName} {b : ByteArray} {idx : Nat} (S : CallFix p m c cc nL s args lw_all RX0) (hA : ∀ q : Nat, H0.size ≤ q → A q) (hM : ∀ sz : Nat, Met l y (ws_ y b 1 none) ({ frames := 0, cells := 0, slots := 0, locals := 0 }) (va_Pc [.ref h0] (mc_P0 dC dI h0 qc qm qr d ct sz u)) (va_Qv (fun c' : Nat → Int32 => c' = ct1) (fun c' => mc_B0 dC dI (va_A (mc_W0 h0 qc qm qr d ct u) sz) h0 qc qm qr d c' u) (va_A (mc_W0 h0 qc qm qr d ct u) sz)) 0 0 (va_A (mc_W0 h0 qc qm qr d ct u) sz)) (cw : CallW R s args RX0 RX0 idx y b 1 none (ws_ y b 1 none) ({ frames := 0, cells := 0, slots := 0, locals := 0 }) 0 0 0) (hK : va_K (dC, dI) vwCl [(d, .int)] s) (hP : va_P (dC, dI) vwCl (mc_W0 h0 qc qm qr d ct u) H) (hD : va_D A (mc_W0 h0 qc qm qr d ct u)) (hS : va_S A H0 H locs) (hsz : ls.size = nL) (hrest : (rest.map fun v => v.category).sum ≤ 8) (hdg : decode cc pc = .ok (.invokevirtual idx, 3)) (hf : cells ≤ R.cells ∧ slots ≤ R.slots) (kk : ∀ (H : Heap) (locs : List Loc), va_P (dC, dI) vwCl (mc_W0 h0 qc qm qr d ct1 u) H → va_D A (mc_W0 h0 qc qm qr d ct1 u) → va_S A H0 H locs → W p l e R s m args below meth c H locs cells slots Q (F0 m (pc + 3) ls rest)) : W p l e R s m args below meth c H locs cells slots Q (F0 m pc ls (.ref h0 :: rest)) := by
  have hFc := va_free (wc := mc_W0 h0 qc qm qr d ct u) hD hS hA [0, 1, 2, 3] rfl
  refine va_callv (va_runV (As := []) (rest := rest) S (hM H.size) cw ⟨fun a U g mk q => ⟨q.1, q.2.1, q.2.2.1, va_K.moved (u := U) (U := U.calling g mk a) (Vm.Alike.refl U.vm) q.2.2.2.1, q.2.2.2.2⟩, va_recv hK hP (ci := 0) (q0 := 0) rfl rfl, fun U hU hW => ⟨rfl, by rw [hU], by rw [hU]; exact hP, va_K.moved hW.alike hK, hD.weaken (fun _ _ _ _ => trivial)⟩⟩ rfl rfl hsz rfl (lv_room hrest) hdg hf) hS (fun q _ h => hFc q h) hFc (fun u1 t H1 locs1 ht hvm hw hB hz1 hk1 hS => ?_)
  obtain ⟨hP1, hK1, hD1⟩ := hB
  rw [ht] at hP1
  have hw : u1 = ct1 := hw
  subst hw
  obtain ⟨hP, hD⟩ := va_join (wr := []) (w1 := mc_W0 h0 qc qm qr d u1 u) hP hD [0, 1, 2, 3] [] rfl rfl (by decide) (by decide) hk1 hFc hP1 hD1
  exact kk H1 locs1 hP hD hS
set_option maxHeartbeats 4000000 in
set_option maxRecDepth 100000 in
theorem met_init0 (l : Launch) (dC : Nat → ClassId) (dI : Nat → Nat → Nat) (h0 sz : Nat) : Met l yX0_init (ws_ yX0_init cX0_init 1 none) ({ frames := 1, cells := 3, slots := 136, locals := 20 }) (va_Pc [.ref h0] (fun U => U.heap.size = sz ∧ va_P (dC, dI) vwCl [(h0, .inr (0, [.null, .null, .null, .int 0, .int 0, .int 0, .int 0, .int 0, .int 0, .int 0, .int 0]))] U.heap ∧ va_K (dC, dI) vwCl [] U ∧ va_D (fun _ => True) [(h0, .inr (0, [.null, .null, .null, .int 0, .int 0, .int 0, .int 0, .int 0, .int 0, .int 0, .int 0]))])) (va_Qv (fun _ : Unit => True) (fun _ t => ∃ (qc qm qr : Nat) (d : ClassId), mc_B0 dC dI (va_A [(h0, .inr (0, [.null, .null, .null, .int 0, .int 0, .int 0, .int 0, .int 0, .int 0, .int 0, .int 0]))] sz) h0 qc qm qr d ct0 mc_u0 t) (va_A [(h0, .inr (0, [.null, .null, .null, .int 0, .int 0, .int 0, .int 0, .int 0, .int 0, .int 0, .int 0]))] sz)) 3 136 (va_A [(h0, .inr (0, [.null, .null, .null, .int 0, .int 0, .int 0, .int 0, .int 0, .int 0, .int 0, .int 0]))] sz) := by
  refine Met.ofW (cc := cX0_init) (maxL := 1) (ret := none) (by decide) rfl ?_
  intro p e s m args below meth c s₁ B hml hv
  obtain ⟨rfl, hsz, hP, hK, hD0⟩ := hv
  have hx := B.exec
  have hb := B.bytes
  have hr := B.returns
  have hts := atoms_spec (ws := (ws_ yX0_init cX0_init 1 none)) B.pre
  have hts : ∀ w ∈ lw_all, w.before _ s = true := fun w h => hts w (List.mem_cons_of_mem _ h)
  have hown : s.vm.findClass RX0 = some m.cls := findClass_of_methodNamed B.named
  have hlocks := B.notSynchronized
  have hin : meth.name = "<init>" := (name_of_methodNamed B.named B.method).1
  subst hsz
  have hD := hD0.self (sz := s.heap.size)
  generalize hAe : va_A [(h0, .inr (0, [.null, .null, .null, .int 0, .int 0, .int 0, .int 0, .int 0, .int 0, .int 0, .int 0]))] s.heap.size = A at hD ⊢
  have hA : ∀ q : Nat, s.heap.size ≤ q → A q := fun q h => by rw [← hAe]; exact Or.inr h
  have hS : va_S A s.heap s.heap [] := va_S.rf
  have hP : va_P (dC, dI) vwCl [(h0, .inr (0, [.null, .null, .null, .int 0, .int 0, .int 0, .int 0, .int 0, .int 0, .int 0, .int 0]))] s.heap := hP
  have hl := lv_entry ([.ref h0]) (n := 1) (Nat.le_of_ble_eq_true rfl)
  rw [lg_entry_eq]
  generalize (lg_sl ([.ref h0]) ++ List.replicate (1 - (lg_sl ([.ref h0])).length) Slot.unset).toArray = ls at hl ⊢
  have hl : lv_has ls 1 [(0, .ref h0)] := hl
  refine lv_aload_n hx hb dX0_init_0 rfl (lv_at hl 0 rfl) ?_
  refine W.objInit hx hb hown (hts _ q30) (hts _ q31) (hts _ q32) rfl (by rw [hml]; exact hl.1) rfl dX0_init_1 (Nat.le_of_ble_eq_true rfl) (Nat.le_of_ble_eq_true rfl) ?_
  refine W.eq (g2 := F0 m 4 ls []) rfl ?_
  refine lv_aload_n hx hb dX0_init_4 rfl (lv_at hl 0 rfl) ?_
  refine lv_bipush (v := 64) hx hb dX0_init_5 (by decide) ?_
  refine va_newa (atype := .int) hx hb (hts _ q109) (ty := .int) rfl hK hP hD hS hA (n := 64) (N' := 64) (a0 := (64, .inl (fun _ => 0))) (fun cA => rfl) (by decide) (by decide) (by decide) (Nat.le_of_ble_eq_true rfl) (Nat.le_of_ble_eq_true rfl) dX0_init_7 (fun qc d1 H hK hP hD hS => ?_)
  have hP : va_P (dC, dI) vwCl [(h0, .inr (0, [.null, .null, .null, .int 0, .int 0, .int 0, .int 0, .int 0, .int 0, .int 0, .int 0])), (qc, .inl (d1, 64, .inl (fun _ => 0)))] H := hP
  have hD : va_D A [(h0, .inr (0, [.null, .null, .null, .int 0, .int 0, .int 0, .int 0, .int 0, .int 0, .int 0, .int 0])), (qc, .inl (d1, 64, .inl (fun _ => 0)))] := hD
  refine W.widen (k := 1) (n := 64) (by decide) (by decide) ?_
  refine va_putF (D := (dC, dI)) (ci := 0) (v := .ref qc) (ty := .array .int) (C := RX0) (T := TX0) (N := 11) hx hb hts in_X0 tyX0 tyX0_ok nmX0 hown hK hP hD hS 0 rfl rfl 0 (by decide) (hts _ q75) (fun _ h9 => h9) rfl hin rfl (by decide +kernel) rfl rfl (Nat.le_of_ble_eq_true rfl) dX0_init_9 (fun H locs hP hD hS => ?_)
  have hP : va_P (dC, dI) vwCl [(h0, .inr (0, [.ref qc, .null, .null, .int 0, .int 0, .int 0, .int 0, .int 0, .int 0, .int 0, .int 0])), (qc, .inl (d1, 64, .inl (fun _ => 0)))] H := hP
  have hD : va_D A [(h0, .inr (0, [.ref qc, .null, .null, .int 0, .int 0, .int 0, .int 0, .int 0, .int 0, .int 0, .int 0])), (qc, .inl (d1, 64, .inl (fun _ => 0)))] := hD
  refine lv_aload_n hx hb dX0_init_12 rfl (lv_at hl 0 rfl) ?_
  refine lv_bipush (v := 64) hx hb dX0_init_13 (by decide) ?_
  refine va_newa (atype := .int) hx hb (hts _ q109) (ty := .int) rfl hK hP hD hS hA (n := 64) (N' := 64) (a0 := (64, .inl (fun _ => 0))) (fun cA => rfl) (by decide) (by decide) (by decide) (Nat.le_of_ble_eq_true rfl) (Nat.le_of_ble_eq_true rfl) dX0_init_15 (fun qm d2 H hK hP hD hS => ?_)
  have hP : va_P (dC, dI) vwCl [(h0, .inr (0, [.ref qc, .null, .null, .int 0, .int 0, .int 0, .int 0, .int 0, .int 0, .int 0, .int 0])), (qc, .inl (d1, 64, .inl (fun _ => 0))), (qm, .inl (d2, 64, .inl (fun _ => 0)))] H := hP
  have hD : va_D A [(h0, .inr (0, [.ref qc, .null, .null, .int 0, .int 0, .int 0, .int 0, .int 0, .int 0, .int 0, .int 0])), (qc, .inl (d1, 64, .inl (fun _ => 0))), (qm, .inl (d2, 64, .inl (fun _ => 0)))] := hD
  refine W.widen (k := 2) (n := 128) (by decide) (by decide) ?_
  refine va_putF (D := (dC, dI)) (ci := 0) (v := .ref qm) (ty := .array .int) (C := RX0) (T := TX0) (N := 11) hx hb hts in_X0 tyX0 tyX0_ok nmX0 hown hK hP hD hS 0 rfl rfl 1 (by decide) (hts _ q76) (fun _ h9 => h9) rfl hin rfl (by decide +kernel) rfl rfl (Nat.le_of_ble_eq_true rfl) dX0_init_17 (fun H locs hP hD hS => ?_)
  have hP : va_P (dC, dI) vwCl [(h0, .inr (0, [.ref qc, .ref qm, .null, .int 0, .int 0, .int 0, .int 0, .int 0, .int 0, .int 0, .int 0])), (qc, .inl (d1, 64, .inl (fun _ => 0))), (qm, .inl (d2, 64, .inl (fun _ => 0)))] H := hP
  have hD : va_D A [(h0, .inr (0, [.ref qc, .ref qm, .null, .int 0, .int 0, .int 0, .int 0, .int 0, .int 0, .int 0, .int 0])), (qc, .inl (d1, 64, .inl (fun _ => 0))), (qm, .inl (d2, 64, .inl (fun _ => 0)))] := hD
  refine lv_aload_n hx hb dX0_init_20 rfl (lv_at hl 0 rfl) ?_
  refine lv_bipush (v := 8) hx hb dX0_init_21 (by decide) ?_
  refine va_newa (atype := .int) hx hb (hts _ q109) (ty := .int) rfl hK hP hD hS hA (n := 8) (N' := 8) (a0 := (8, .inl (fun _ => 0))) (fun cA => rfl) (by decide) (by decide) (by decide) (Nat.le_of_ble_eq_true rfl) (Nat.le_of_ble_eq_true rfl) dX0_init_23 (fun qr d3 H hK hP hD hS => ?_)
  have hP : va_P (dC, dI) vwCl [(h0, .inr (0, [.ref qc, .ref qm, .null, .int 0, .int 0, .int 0, .int 0, .int 0, .int 0, .int 0, .int 0])), (qc, .inl (d1, 64, .inl (fun _ => 0))), (qm, .inl (d2, 64, .inl (fun _ => 0))), (qr, .inl (d3, 8, .inl (fun _ => 0)))] H := hP
  have hD : va_D A [(h0, .inr (0, [.ref qc, .ref qm, .null, .int 0, .int 0, .int 0, .int 0, .int 0, .int 0, .int 0, .int 0])), (qc, .inl (d1, 64, .inl (fun _ => 0))), (qm, .inl (d2, 64, .inl (fun _ => 0))), (qr, .inl (d3, 8, .inl (fun _ => 0)))] := hD
  refine W.widen (k := 3) (n := 136) (by decide) (by decide) ?_
  refine va_putF (D := (dC, dI)) (ci := 0) (v := .ref qr) (ty := .array .int) (C := RX0) (T := TX0) (N := 11) hx hb hts in_X0 tyX0 tyX0_ok nmX0 hown hK hP hD hS 0 rfl rfl 2 (by decide) (hts _ q77) (fun _ h9 => h9) rfl hin rfl (by decide +kernel) rfl rfl (Nat.le_of_ble_eq_true rfl) dX0_init_25 (fun H locs hP hD hS => ?_)
  have hP : va_P (dC, dI) vwCl [(h0, .inr (0, [.ref qc, .ref qm, .ref qr, .int 0, .int 0, .int 0, .int 0, .int 0, .int 0, .int 0, .int 0])), (qc, .inl (d1, 64, .inl (fun _ => 0))), (qm, .inl (d2, 64, .inl (fun _ => 0))), (qr, .inl (d3, 8, .inl (fun _ => 0)))] H := hP
  have hD : va_D A [(h0, .inr (0, [.ref qc, .ref qm, .ref qr, .int 0, .int 0, .int 0, .int 0, .int 0, .int 0, .int 0, .int 0])), (qc, .inl (d1, 64, .inl (fun _ => 0))), (qm, .inl (d2, 64, .inl (fun _ => 0))), (qr, .inl (d3, 8, .inl (fun _ => 0)))] := hD
  have e2 : d1 = d2 := mc_same (i := 0) (j := 1) hK rfl rfl
  have e3 : d1 = d3 := mc_same (i := 0) (j := 2) hK rfl rfl
  subst e2
  subst e3
  have hK : va_K (dC, dI) vwCl [(d1, .int)] s := hK.sub [0] rfl
  have hP : va_P (dC, dI) vwCl (mc_W0 h0 qc qm qr d1 (fun _ => 0) (fun _ => 0, fun _ => 0, 0, 0, 0, 0, 0, 0, 0, 0)) H := hP
  have hD : va_D A (mc_W0 h0 qc qm qr d1 (fun _ => 0) (fun _ => 0, fun _ => 0, 0, 0, 0, 0, 0, 0, 0, 0)) := hD
  refine lv_aload_n hx hb dX0_init_28 rfl (lv_at hl 0 rfl) ?_
  refine lv_iconst (v := 2) hx hb dX0_init_29 (by decide) ?_
  refine va_put (D := (dC, dI)) (ci := 0) (v := .int 2) (ty := .int) (C := RX0) (T := TX0) (N := 11) hx hb hts in_X0 tyX0 tyX0_ok nmX0 hown hK hP hD hS 0 rfl rfl 4 (by decide) (hts _ q79) (fun _ h9 => h9) rfl (by decide +kernel) rfl rfl (Nat.le_of_ble_eq_true rfl) dX0_init_30 (fun H locs hP hD hS => ?_)
  have hP : va_P (dC, dI) vwCl (mc_W0 h0 qc qm qr d1 (fun _ => 0) (fun _ => 0, fun _ => 0, 0, 2, 0, 0, 0, 0, 0, 0)) H := hP
  have hD : va_D A (mc_W0 h0 qc qm qr d1 (fun _ => 0) (fun _ => 0, fun _ => 0, 0, 2, 0, 0, 0, 0, 0, 0)) := hD
  refine lv_aload_n hx hb dX0_init_33 rfl (lv_at hl 0 rfl) ?_
  refine lv_bipush (v := 18) hx hb dX0_init_34 (by decide) ?_
  refine va_put (D := (dC, dI)) (ci := 0) (v := .int 18) (ty := .int) (C := RX0) (T := TX0) (N := 11) hx hb hts in_X0 tyX0 tyX0_ok nmX0 hown hK hP hD hS 0 rfl rfl 7 (by decide) (hts _ q82) (fun _ h9 => h9) rfl (by decide +kernel) rfl rfl (Nat.le_of_ble_eq_true rfl) dX0_init_36 (fun H locs hP hD hS => ?_)
  have hP : va_P (dC, dI) vwCl (mc_W0 h0 qc qm qr d1 (fun _ => 0) mc_u0) H := hP
  have hD : va_D A (mc_W0 h0 qc qm qr d1 (fun _ => 0) mc_u0) := hD
  refine lv_aload_n hx hb dX0_init_39 rfl (lv_at hl 0 rfl) ?_
  refine wf_0 ⟨hx, hb, hml, hown, hts⟩ hA (fun sz => met_fillFetchAndDecode l dC dI h0 qc qm qr d1 (fun _ => 0) sz mc_u0) (cwV 0 hts (lw_V q33 q35 qs0 q23 q36) rfl rfl rfl (by decide +kernel) ⟨Nat.le_of_ble_eq_true rfl, Nat.le_of_ble_eq_true rfl⟩) hK hP hD hS hl.1 (Nat.le_of_ble_eq_true rfl) dX0_init_40 ⟨Nat.le_of_ble_eq_true rfl, Nat.le_of_ble_eq_true rfl⟩ (fun H locs hP hD hS => ?_)
  refine lv_aload_n hx hb dX0_init_43 rfl (lv_at hl 0 rfl) ?_
  refine wf_0 ⟨hx, hb, hml, hown, hts⟩ hA (fun sz => met_fillArithmetic l dC dI h0 qc qm qr d1 (ctF0 (fun _ => 0)) sz mc_u0) (cwV 0 hts (lw_V q39 q41 qs1 q23 q42) rfl rfl rfl (by decide +kernel) ⟨Nat.le_of_ble_eq_true rfl, Nat.le_of_ble_eq_true rfl⟩) hK hP hD hS hl.1 (Nat.le_of_ble_eq_true rfl) dX0_init_44 ⟨Nat.le_of_ble_eq_true rfl, Nat.le_of_ble_eq_true rfl⟩ (fun H locs hP hD hS => ?_)
  refine lv_aload_n hx hb dX0_init_47 rfl (lv_at hl 0 rfl) ?_
  refine wf_0 ⟨hx, hb, hml, hown, hts⟩ hA (fun sz => met_fillMemory l dC dI h0 qc qm qr d1 (ctF1 (ctF0 (fun _ => 0))) sz mc_u0) (cwV 0 hts (lw_V q47 q49 qs2 q23 q50) rfl rfl rfl (by decide +kernel) ⟨Nat.le_of_ble_eq_true rfl, Nat.le_of_ble_eq_true rfl⟩) hK hP hD hS hl.1 (Nat.le_of_ble_eq_true rfl) dX0_init_48 ⟨Nat.le_of_ble_eq_true rfl, Nat.le_of_ble_eq_true rfl⟩ (fun H locs hP hD hS => ?_)
  refine lv_aload_n hx hb dX0_init_51 rfl (lv_at hl 0 rfl) ?_
  refine wf_0 ⟨hx, hb, hml, hown, hts⟩ hA (fun sz => met_fillFlow l dC dI h0 qc qm qr d1 (ctF2 (ctF1 (ctF0 (fun _ => 0)))) sz mc_u0) (cwV 0 hts (lw_V q65 q67 qs3 q23 q68) rfl rfl rfl (by decide +kernel) ⟨Nat.le_of_ble_eq_true rfl, Nat.le_of_ble_eq_true rfl⟩) hK hP hD hS hl.1 (Nat.le_of_ble_eq_true rfl) dX0_init_52 ⟨Nat.le_of_ble_eq_true rfl, Nat.le_of_ble_eq_true rfl⟩ (fun H locs hP hD hS => ?_)
  have hP : va_P (dC, dI) vwCl (mc_W0 h0 qc qm qr d1 ct0 mc_u0) H := hP
  have hD : va_D A (mc_W0 h0 qc qm qr d1 ct0 mc_u0) := hD
  refine W.widen (k := 3) (n := 136) (by decide) (by decide) ?_
  exact W.vret hx hb hr (fun t ht hW => ⟨⟨(), rfl, trivial, qc, qm, qr, d1, by rw [ht]; exact hP, va_K.moved hW.alike hK, hD⟩, hS.F ht⟩) hS.2.2 dX0_init_55
end
section
/-! MicroLc3Model: the methods that only read -/
set_option maxHeartbeats 4000000 in
set_option maxRecDepth 100000 in
theorem met1_isWord (l : Launch) (dC : Nat → ClassId) (dI : Nat → Nat → Nat) (g0 pr pm : Nat) (d : ClassId) (v : mc_S1) (a : Int32) : Met l yX1_isWord (ws_ yX1_isWord cX1_isWord 2 (some .boolean)) ({ frames := 0, cells := 0, slots := 0, locals := 0 }) (va_Pc [.ref g0, .int a] (fun U => va_P (dC, dI) vwCl (mc_W1 g0 pr pm d v) U.heap ∧ va_K (dC, dI) vwCl [(d, .int)] U)) (vp_Si (fun r => r = isWF a)) 0 0 (fun _ => False) := by
  refine Met.ofW (cc := cX1_isWord) (maxL := 2) (ret := (some .boolean)) (by decide) rfl ?_
  intro p e s m args below meth c s₁ B hml hv
  obtain ⟨rfl, hP, hK⟩ := hv
  have hx := B.exec
  have hb := B.bytes
  have hr := B.returns
  have hts := atoms_spec (ws := (ws_ yX1_isWord cX1_isWord 2 (some .boolean))) B.pre
  have hts : ∀ w ∈ lw_all, w.before _ s = true := fun w h => hts w (List.mem_cons_of_mem _ h)
  have hown : s.vm.findClass RX1 = some m.cls := findClass_of_methodNamed B.named
  have hlocks := B.notSynchronized
  have hP : va_P (dC, dI) vwCl (mc_W1 g0 pr pm d v) s.heap := hP
  have hl := lv_entry ([.ref g0, .int a]) (n := 2) (Nat.le_of_ble_eq_true rfl)
  rw [lg_entry_eq]
  generalize (lg_sl ([.ref g0, .int a]) ++ List.replicate (2 - (lg_sl ([.ref g0, .int a])).length) Slot.unset).toArray = ls at hl ⊢
  have hl : lv_has ls 2 [(0, .ref g0), (1, .int a)] := hl
  refine lv_iload_n hx hb dX1_isWord_0 rfl (lv_at hl 1 rfl) ?_
  refine lv_if_lt (tgt := 14) hx hb dX1_isWord_1 (by decide) (fun c_1 => ?_) (fun c_1 => ?_)
  · refine lv_iconst (v := 0) hx hb dX1_isWord_14 (by decide) ?_
    exact W.zret (v := 0) hx hb hr rfl (fun t ht hW => ⟨0, rfl, (by show 0 = isWF a; unfold isWF; rw [if_pos c_1]), ht⟩) (fun q h => by cases h) dX1_isWord_15
  · refine lv_iload_n hx hb dX1_isWord_4 rfl (lv_at hl 1 rfl) ?_
    refine lv_ldc (v := 65535) hx hb hown (hts _ q240) dX1_isWord_5 ?_
    refine lv_icmp_gt (tgt := 14) hx hb dX1_isWord_7 (by decide) (fun c_2 => ?_) (fun c_2 => ?_)
    · refine lv_iconst (v := 0) hx hb dX1_isWord_14 (by decide) ?_
      exact W.zret (v := 0) hx hb hr rfl (fun t ht hW => ⟨0, rfl, (by show 0 = isWF a; unfold isWF; rw [if_neg c_1, if_pos c_2]), ht⟩) (fun q h => by cases h) dX1_isWord_15
    · refine lv_iconst (v := 1) hx hb dX1_isWord_10 (by decide) ?_
      refine lv_goto (tgt := 15) hx hb dX1_isWord_11 (by decide) ?_
      exact W.zret (v := 1) hx hb hr rfl (fun t ht hW => ⟨1, rfl, (by show 1 = isWF a; unfold isWF; rw [if_neg c_1, if_neg c_2]), ht⟩) (fun q h => by cases h) dX1_isWord_15
theorem rd1_isWord {p : Program} {l : Launch} {e : Env} {R : Room} {s : State} {m : MethodId} {args : Array Value} {below : List Frame} {meth : Method} {c : Code} {H : Heap} {locs : List Loc} {cells slots : Nat} {Q : State → Prop} {cc : ByteArray} {pc nL : Nat} {ls : Array Slot} {rest : List Value} {dC : Nat → ClassId} {dI : Nat → Nat → Nat} {g0 pr pm : Nat} {d : ClassId} {v : mc_S1} {a : Int32} (S : CallFix p m c cc nL s args lw_all RX1) (hK : va_K (dC, dI) vwCl [(d, .int)] s) (hP : va_P (dC, dI) vwCl (mc_W1 g0 pr pm d v) H) (hR : 1 ≤ R.frames ∧ 21 ≤ R.locals) (hsz : ls.size = nL) (hrest : (rest.map fun v => v.category).sum ≤ 8) (hdg : decode cc pc = .ok (.invokevirtual 30, 3)) (hf : cells ≤ R.cells ∧ slots ≤ R.slots) (kk : W p l e R s m args below meth c H locs cells slots Q (F0 m (pc + 3) ls (.int (isWF a) :: rest))) : W p l e R s m args below meth c H locs cells slots Q (F0 m pc ls (.int a :: .ref g0 :: rest)) := by
  refine vp_callSi (W.runV (As := [.int a]) (rest := rest) S (met1_isWord l dC dI g0 pr pm d v a) (cwV 1 S.2.2.2.2 (lw_V q236 q238 qs13 q24 q239) rfl rfl rfl (by decide +kernel) hR) ⟨fun a U g mk q => ⟨q.1, q.2.1, va_K.moved (u := U) (U := U.calling g mk a) (Vm.Alike.refl U.vm) q.2.2⟩, va_recv hK hP (ci := 1) (q0 := 0) rfl rfl, fun U hU hW => ⟨rfl, by rw [hU]; exact hP, va_K.moved hW.alike hK⟩⟩ rfl rfl hsz rfl (lv_room hrest) hdg hf) (fun r hr => ?_)
  rw [hr]
  exact kk
set_option maxHeartbeats 4000000 in
set_option maxRecDepth 100000 in
theorem met1_signed (l : Launch) (dC : Nat → ClassId) (dI : Nat → Nat → Nat) (g0 pr pm : Nat) (d : ClassId) (v : mc_S1) (a : Int32) (b : Int32) (hne : ¬ (1 : Int32) <<< (b &&& 31) = 0) : Met l yX1_signed (ws_ yX1_signed cX1_signed 4 (some .int)) ({ frames := 0, cells := 0, slots := 0, locals := 0 }) (va_Pc [.ref g0, .int a, .int b] (fun U => va_P (dC, dI) vwCl (mc_W1 g0 pr pm d v) U.heap ∧ va_K (dC, dI) vwCl [(d, .int)] U)) (vp_Si (fun r => r = sgnF a b)) 0 0 (fun _ => False) := by
  refine Met.ofW (cc := cX1_signed) (maxL := 4) (ret := (some .int)) (by decide) rfl ?_
  intro p e s m args below meth c s₁ B hml hv
  obtain ⟨rfl, hP, hK⟩ := hv
  have hx := B.exec
  have hb := B.bytes
  have hr := B.returns
  have hts := atoms_spec (ws := (ws_ yX1_signed cX1_signed 4 (some .int))) B.pre
  have hts : ∀ w ∈ lw_all, w.before _ s = true := fun w h => hts w (List.mem_cons_of_mem _ h)
  have hown : s.vm.findClass RX1 = some m.cls := findClass_of_methodNamed B.named
  have hlocks := B.notSynchronized
  have hP : va_P (dC, dI) vwCl (mc_W1 g0 pr pm d v) s.heap := hP
  have hl := lv_entry ([.ref g0, .int a, .int b]) (n := 4) (Nat.le_of_ble_eq_true rfl)
  rw [lg_entry_eq]
  generalize (lg_sl ([.ref g0, .int a, .int b]) ++ List.replicate (4 - (lg_sl ([.ref g0, .int a, .int b])).length) Slot.unset).toArray = ls at hl ⊢
  have hl : lv_has ls 4 [(0, .ref g0), (1, .int a), (2, .int b)] := hl
  refine lv_iload_n hx hb dX1_signed_0 rfl (lv_at hl 1 rfl) ?_
  refine lv_iconst (v := 1) hx hb dX1_signed_1 (by decide) ?_
  refine lv_iload_n hx hb dX1_signed_2 rfl (lv_at hl 2 rfl) ?_
  refine lv_ishl hx hb dX1_signed_3 ?_
  refine lv_irem hx hb dX1_signed_4 hne ?_
  refine lv_istore_n (lv' := [(3, .int (a - a / ((1 : Int32) <<< (b &&& 31)) * ((1 : Int32) <<< (b &&& 31)))), (0, .ref g0), (1, .int a), (2, .int b)]) hx hb dX1_signed_5 rfl hl (by decide) rfl (fun ls hl => ?_)
  refine lv_iload_n hx hb dX1_signed_6 rfl (lv_at hl 0 rfl) ?_
  refine lv_iconst (v := 1) hx hb dX1_signed_7 (by decide) ?_
  refine lv_iload_n hx hb dX1_signed_8 rfl (lv_at hl 3 rfl) ?_
  refine lv_iconst (v := 1) hx hb dX1_signed_9 (by decide) ?_
  refine lv_isub hx hb dX1_signed_10 ?_
  refine lv_ishl hx hb dX1_signed_11 ?_
  refine lv_icmp_lt (tgt := 23) hx hb dX1_signed_12 (by decide) (fun c_1 => ?_) (fun c_1 => ?_)
  · refine lv_iload_n hx hb dX1_signed_23 rfl (lv_at hl 0 rfl) ?_
    exact W.iret (v := a - a / ((1 : Int32) <<< (b &&& 31)) * ((1 : Int32) <<< (b &&& 31))) hx hb hr (fun t ht hW => ⟨a - a / ((1 : Int32) <<< (b &&& 31)) * ((1 : Int32) <<< (b &&& 31)), rfl, (by show a - a / ((1 : Int32) <<< (b &&& 31)) * ((1 : Int32) <<< (b &&& 31)) = sgnF a b; unfold sgnF; rw [if_pos c_1]), ht⟩) (fun q h => by cases h) dX1_signed_24
  · refine lv_iload_n hx hb dX1_signed_15 rfl (lv_at hl 0 rfl) ?_
    refine lv_iconst (v := 1) hx hb dX1_signed_16 (by decide) ?_
    refine lv_iload_n hx hb dX1_signed_17 rfl (lv_at hl 3 rfl) ?_
    refine lv_ishl hx hb dX1_signed_18 ?_
    refine lv_isub hx hb dX1_signed_19 ?_
    refine lv_goto (tgt := 24) hx hb dX1_signed_20 (by decide) ?_
    exact W.iret (v := (a - a / ((1 : Int32) <<< (b &&& 31)) * ((1 : Int32) <<< (b &&& 31))) - ((1 : Int32) <<< (b &&& 31))) hx hb hr (fun t ht hW => ⟨(a - a / ((1 : Int32) <<< (b &&& 31)) * ((1 : Int32) <<< (b &&& 31))) - ((1 : Int32) <<< (b &&& 31)), rfl, (by show (a - a / ((1 : Int32) <<< (b &&& 31)) * ((1 : Int32) <<< (b &&& 31))) - ((1 : Int32) <<< (b &&& 31)) = sgnF a b; unfold sgnF; rw [if_neg c_1]), ht⟩) (fun q h => by cases h) dX1_signed_24
theorem rd1_signed {p : Program} {l : Launch} {e : Env} {R : Room} {s : State} {m : MethodId} {args : Array Value} {below : List Frame} {meth : Method} {c : Code} {H : Heap} {locs : List Loc} {cells slots : Nat} {Q : State → Prop} {cc : ByteArray} {pc nL : Nat} {ls : Array Slot} {rest : List Value} {dC : Nat → ClassId} {dI : Nat → Nat → Nat} {g0 pr pm : Nat} {d : ClassId} {v : mc_S1} {a b : Int32} (hne : ¬ (1 : Int32) <<< (b &&& 31) = 0) (S : CallFix p m c cc nL s args lw_all RX1) (hK : va_K (dC, dI) vwCl [(d, .int)] s) (hP : va_P (dC, dI) vwCl (mc_W1 g0 pr pm d v) H) (hR : 1 ≤ R.frames ∧ 23 ≤ R.locals) (hsz : ls.size = nL) (hrest : (rest.map fun v => v.category).sum ≤ 8) (hdg : decode cc pc = .ok (.invokevirtual 38, 3)) (hf : cells ≤ R.cells ∧ slots ≤ R.slots) (kk : W p l e R s m args below meth c H locs cells slots Q (F0 m (pc + 3) ls (.int (sgnF a b) :: rest))) : W p l e R s m args below meth c H locs cells slots Q (F0 m pc ls (.int b :: .int a :: .ref g0 :: rest)) := by
  refine vp_callSi (W.runV (As := [.int a, .int b]) (rest := rest) S (met1_signed l dC dI g0 pr pm d v a b hne) (cwV 2 S.2.2.2.2 (lw_V q273 q275 qs17 q24 q276) rfl rfl rfl (by decide +kernel) hR) ⟨fun a U g mk q => ⟨q.1, q.2.1, va_K.moved (u := U) (U := U.calling g mk a) (Vm.Alike.refl U.vm) q.2.2⟩, va_recv hK hP (ci := 1) (q0 := 0) rfl rfl, fun U hU hW => ⟨rfl, by rw [hU]; exact hP, va_K.moved hW.alike hK⟩⟩ rfl rfl hsz rfl (lv_room hrest) hdg hf) (fun r hr => ?_)
  rw [hr]
  exact kk
set_option maxHeartbeats 4000000 in
set_option maxRecDepth 100000 in
theorem met1_word (l : Launch) (dC : Nat → ClassId) (dI : Nat → Nat → Nat) (g0 pr pm : Nat) (d : ClassId) (v : mc_S1) (a : Int32) : Met l yX1_word (ws_ yX1_word cX1_word 2 (some .int)) ({ frames := 0, cells := 0, slots := 0, locals := 0 }) (va_Pc [.ref g0, .int a] (fun U => va_P (dC, dI) vwCl (mc_W1 g0 pr pm d v) U.heap ∧ va_K (dC, dI) vwCl [(d, .int)] U)) (vp_Si (fun r => r = wordF a)) 0 0 (fun _ => False) := by
  refine Met.ofW (cc := cX1_word) (maxL := 2) (ret := (some .int)) (by decide) rfl ?_
  intro p e s m args below meth c s₁ B hml hv
  obtain ⟨rfl, hP, hK⟩ := hv
  have hx := B.exec
  have hb := B.bytes
  have hr := B.returns
  have hts := atoms_spec (ws := (ws_ yX1_word cX1_word 2 (some .int))) B.pre
  have hts : ∀ w ∈ lw_all, w.before _ s = true := fun w h => hts w (List.mem_cons_of_mem _ h)
  have hown : s.vm.findClass RX1 = some m.cls := findClass_of_methodNamed B.named
  have hlocks := B.notSynchronized
  have hP : va_P (dC, dI) vwCl (mc_W1 g0 pr pm d v) s.heap := hP
  have hl := lv_entry ([.ref g0, .int a]) (n := 2) (Nat.le_of_ble_eq_true rfl)
  rw [lg_entry_eq]
  generalize (lg_sl ([.ref g0, .int a]) ++ List.replicate (2 - (lg_sl ([.ref g0, .int a])).length) Slot.unset).toArray = ls at hl ⊢
  have hl : lv_has ls 2 [(0, .ref g0), (1, .int a)] := hl
  refine lv_iload_n hx hb dX1_word_0 rfl (lv_at hl 1 rfl) ?_
  refine lv_ldc (v := 65535) hx hb hown (hts _ q240) dX1_word_1 ?_
  refine lv_iand hx hb dX1_word_3 ?_
  exact W.iret (v := a &&& 65535) hx hb hr (fun t ht hW => ⟨a &&& 65535, rfl, rfl, ht⟩) (fun q h => by cases h) dX1_word_4
theorem rd1_word {p : Program} {l : Launch} {e : Env} {R : Room} {s : State} {m : MethodId} {args : Array Value} {below : List Frame} {meth : Method} {c : Code} {H : Heap} {locs : List Loc} {cells slots : Nat} {Q : State → Prop} {cc : ByteArray} {pc nL : Nat} {ls : Array Slot} {rest : List Value} {dC : Nat → ClassId} {dI : Nat → Nat → Nat} {g0 pr pm : Nat} {d : ClassId} {v : mc_S1} {a : Int32} (S : CallFix p m c cc nL s args lw_all RX1) (hK : va_K (dC, dI) vwCl [(d, .int)] s) (hP : va_P (dC, dI) vwCl (mc_W1 g0 pr pm d v) H) (hR : 1 ≤ R.frames ∧ 21 ≤ R.locals) (hsz : ls.size = nL) (hrest : (rest.map fun v => v.category).sum ≤ 8) (hdg : decode cc pc = .ok (.invokevirtual 34, 3)) (hf : cells ≤ R.cells ∧ slots ≤ R.slots) (kk : W p l e R s m args below meth c H locs cells slots Q (F0 m (pc + 3) ls (.int (wordF a) :: rest))) : W p l e R s m args below meth c H locs cells slots Q (F0 m pc ls (.int a :: .ref g0 :: rest)) := by
  refine vp_callSi (W.runV (As := [.int a]) (rest := rest) S (met1_word l dC dI g0 pr pm d v a) (cwV 1 S.2.2.2.2 (lw_V q265 q267 qs15 q24 q268) rfl rfl rfl (by decide +kernel) hR) ⟨fun a U g mk q => ⟨q.1, q.2.1, va_K.moved (u := U) (U := U.calling g mk a) (Vm.Alike.refl U.vm) q.2.2⟩, va_recv hK hP (ci := 1) (q0 := 0) rfl rfl, fun U hU hW => ⟨rfl, by rw [hU]; exact hP, va_K.moved hW.alike hK⟩⟩ rfl rfl hsz rfl (lv_room hrest) hdg hf) (fun r hr => ?_)
  rw [hr]
  exact kk
set_option maxHeartbeats 4000000 in
set_option maxRecDepth 100000 in
theorem met1_taken (l : Launch) (dC : Nat → ClassId) (dI : Nat → Nat → Nat) (g0 pr pm : Nat) (d : ClassId) (v : mc_S1) (a : Int32) : Met l yX1_taken (ws_ yX1_taken cX1_taken 2 (some .boolean)) ({ frames := 0, cells := 0, slots := 0, locals := 0 }) (va_Pc [.ref g0, .int a] (fun U => va_P (dC, dI) vwCl (mc_W1 g0 pr pm d v) U.heap ∧ va_K (dC, dI) vwCl [(d, .int)] U)) (vp_Si (fun r => r = takF a v)) 0 0 (fun _ => False) := by
  refine Met.ofW (cc := cX1_taken) (maxL := 2) (ret := (some .boolean)) (by decide) rfl ?_
  intro p e s m args below meth c s₁ B hml hv
  obtain ⟨rfl, hP, hK⟩ := hv
  have hx := B.exec
  have hb := B.bytes
  have hr := B.returns
  have hts := atoms_spec (ws := (ws_ yX1_taken cX1_taken 2 (some .boolean))) B.pre
  have hts : ∀ w ∈ lw_all, w.before _ s = true := fun w h => hts w (List.mem_cons_of_mem _ h)
  have hown : s.vm.findClass RX1 = some m.cls := findClass_of_methodNamed B.named
  have hlocks := B.notSynchronized
  have hP : va_P (dC, dI) vwCl (mc_W1 g0 pr pm d v) s.heap := hP
  have hl := lv_entry ([.ref g0, .int a]) (n := 2) (Nat.le_of_ble_eq_true rfl)
  rw [lg_entry_eq]
  generalize (lg_sl ([.ref g0, .int a]) ++ List.replicate (2 - (lg_sl ([.ref g0, .int a])).length) Slot.unset).toArray = ls at hl ⊢
  have hl : lv_has ls 2 [(0, .ref g0), (1, .int a)] := hl
  refine lv_aload_n hx hb dX1_taken_0 rfl (lv_at hl 0 rfl) ?_
  refine va_get (D := (dC, dI)) (ci := 1) (v := .int (t_sg v)) (C := RX1) (T := TX1) (N := 6) hx hb hts in_X1 hown hK hP 0 rfl rfl 3 (by decide) (hts _ q216) (fun _ h9 => h9) rfl dX1_taken_1 ?_
  refine lv_if_ge (tgt := 23) hx hb dX1_taken_4 (by decide) (fun c_1 => ?_) (fun c_1 => ?_)
  · refine lv_aload_n hx hb dX1_taken_23 rfl (lv_at hl 0 rfl) ?_
    refine va_get (D := (dC, dI)) (ci := 1) (v := .int (t_sg v)) (C := RX1) (T := TX1) (N := 6) hx hb hts in_X1 hown hK hP 0 rfl rfl 3 (by decide) (hts _ q216) (fun _ h9 => h9) rfl dX1_taken_24 ?_
    refine lv_if_ne (tgt := 48) hx hb dX1_taken_27 (by decide) (fun c_2 => ?_) (fun c_2 => ?_)
    · refine lv_iload_n hx hb dX1_taken_48 rfl (lv_at hl 1 rfl) ?_
      refine lv_bipush (v := 9) hx hb dX1_taken_49 (by decide) ?_
      refine lv_ishr hx hb dX1_taken_51 ?_
      refine lv_iconst (v := 1) hx hb dX1_taken_52 (by decide) ?_
      refine lv_iand hx hb dX1_taken_53 ?_
      refine lv_iconst (v := 1) hx hb dX1_taken_54 (by decide) ?_
      refine lv_icmp_ne (tgt := 62) hx hb dX1_taken_55 (by decide) (fun c_3 => ?_) (fun c_3 => ?_)
      · refine lv_iconst (v := 0) hx hb dX1_taken_62 (by decide) ?_
        exact W.zret (v := 0) hx hb hr rfl (fun t ht hW => ⟨0, rfl, (by show 0 = takF a v; unfold takF; rw [if_pos c_1, if_neg c_2, if_neg c_3]), ht⟩) (fun q h => by cases h) dX1_taken_63
      · refine lv_iconst (v := 1) hx hb dX1_taken_58 (by decide) ?_
        refine lv_goto (tgt := 63) hx hb dX1_taken_59 (by decide) ?_
        exact W.zret (v := 1) hx hb hr rfl (fun t ht hW => ⟨1, rfl, (by show 1 = takF a v; unfold takF; rw [if_pos c_1, if_neg c_2, if_pos c_3]), ht⟩) (fun q h => by cases h) dX1_taken_63
    · refine lv_iload_n hx hb dX1_taken_30 rfl (lv_at hl 1 rfl) ?_
      refine lv_bipush (v := 10) hx hb dX1_taken_31 (by decide) ?_
      refine lv_ishr hx hb dX1_taken_33 ?_
      refine lv_iconst (v := 1) hx hb dX1_taken_34 (by decide) ?_
      refine lv_iand hx hb dX1_taken_35 ?_
      refine lv_iconst (v := 1) hx hb dX1_taken_36 (by decide) ?_
      refine lv_icmp_ne (tgt := 44) hx hb dX1_taken_37 (by decide) (fun c_4 => ?_) (fun c_4 => ?_)
      · refine lv_iconst (v := 0) hx hb dX1_taken_44 (by decide) ?_
        refine lv_goto (tgt := 63) hx hb dX1_taken_45 (by decide) ?_
        exact W.zret (v := 0) hx hb hr rfl (fun t ht hW => ⟨0, rfl, (by show 0 = takF a v; unfold takF; rw [if_pos c_1, if_pos c_2, if_neg c_4]), ht⟩) (fun q h => by cases h) dX1_taken_63
      · refine lv_iconst (v := 1) hx hb dX1_taken_40 (by decide) ?_
        refine lv_goto (tgt := 63) hx hb dX1_taken_41 (by decide) ?_
        exact W.zret (v := 1) hx hb hr rfl (fun t ht hW => ⟨1, rfl, (by show 1 = takF a v; unfold takF; rw [if_pos c_1, if_pos c_2, if_pos c_4]), ht⟩) (fun q h => by cases h) dX1_taken_63
  · refine lv_iload_n hx hb dX1_taken_7 rfl (lv_at hl 1 rfl) ?_
    refine lv_bipush (v := 11) hx hb dX1_taken_8 (by decide) ?_
    refine lv_ishr hx hb dX1_taken_10 ?_
    refine lv_iconst (v := 1) hx hb dX1_taken_11 (by decide) ?_
    refine lv_iand hx hb dX1_taken_12 ?_
    refine lv_iconst (v := 1) hx hb dX1_taken_13 (by decide) ?_
    refine lv_icmp_ne (tgt := 21) hx hb dX1_taken_14 (by decide) (fun c_5 => ?_) (fun c_5 => ?_)
    · refine lv_iconst (v := 0) hx hb dX1_taken_21 (by decide) ?_
      exact W.zret (v := 0) hx hb hr rfl (fun t ht hW => ⟨0, rfl, (by show 0 = takF a v; unfold takF; rw [if_neg c_1, if_neg c_5]), ht⟩) (fun q h => by cases h) dX1_taken_22
    · refine lv_iconst (v := 1) hx hb dX1_taken_17 (by decide) ?_
      refine lv_goto (tgt := 22) hx hb dX1_taken_18 (by decide) ?_
      exact W.zret (v := 1) hx hb hr rfl (fun t ht hW => ⟨1, rfl, (by show 1 = takF a v; unfold takF; rw [if_neg c_1, if_pos c_5]), ht⟩) (fun q h => by cases h) dX1_taken_22
theorem rd1_taken {p : Program} {l : Launch} {e : Env} {R : Room} {s : State} {m : MethodId} {args : Array Value} {below : List Frame} {meth : Method} {c : Code} {H : Heap} {locs : List Loc} {cells slots : Nat} {Q : State → Prop} {cc : ByteArray} {pc nL : Nat} {ls : Array Slot} {rest : List Value} {dC : Nat → ClassId} {dI : Nat → Nat → Nat} {g0 pr pm : Nat} {d : ClassId} {v : mc_S1} {a : Int32} (S : CallFix p m c cc nL s args lw_all RX1) (hK : va_K (dC, dI) vwCl [(d, .int)] s) (hP : va_P (dC, dI) vwCl (mc_W1 g0 pr pm d v) H) (hR : 1 ≤ R.frames ∧ 21 ≤ R.locals) (hsz : ls.size = nL) (hrest : (rest.map fun v => v.category).sum ≤ 8) (hdg : decode cc pc = .ok (.invokevirtual 46, 3)) (hf : cells ≤ R.cells ∧ slots ≤ R.slots) (kk : W p l e R s m args below meth c H locs cells slots Q (F0 m (pc + 3) ls (.int (takF a v) :: rest))) : W p l e R s m args below meth c H locs cells slots Q (F0 m pc ls (.int a :: .ref g0 :: rest)) := by
  refine vp_callSi (W.runV (As := [.int a]) (rest := rest) S (met1_taken l dC dI g0 pr pm d v a) (cwV 1 S.2.2.2.2 (lw_V q289 q291 qs21 q24 q292) rfl rfl rfl (by decide +kernel) hR) ⟨fun a U g mk q => ⟨q.1, q.2.1, va_K.moved (u := U) (U := U.calling g mk a) (Vm.Alike.refl U.vm) q.2.2⟩, va_recv hK hP (ci := 1) (q0 := 0) rfl rfl, fun U hU hW => ⟨rfl, by rw [hU]; exact hP, va_K.moved hW.alike hK⟩⟩ rfl rfl hsz rfl (lv_room hrest) hdg hf) (fun r hr => ?_)
  rw [hr]
  exact kk
set_option maxHeartbeats 4000000 in
set_option maxRecDepth 100000 in
theorem met1_peek (l : Launch) (dC : Nat → ClassId) (dI : Nat → Nat → Nat) (g0 pr pm : Nat) (d : ClassId) (v : mc_S1) (a : Int32) : Met l yX1_peek (ws_ yX1_peek cX1_peek 2 (some .int)) ({ frames := 0, cells := 0, slots := 0, locals := 0 }) (va_Pc [.ref g0, .int a] (fun U => va_P (dC, dI) vwCl (mc_W1 g0 pr pm d v) U.heap ∧ va_K (dC, dI) vwCl [(d, .int)] U)) (vp_Si (fun r => r = peekG v a)) 0 0 (fun _ => False) := by
  refine Met.ofW (cc := cX1_peek) (maxL := 2) (ret := (some .int)) (by decide) rfl ?_
  intro p e s m args below meth c s₁ B hml hv
  obtain ⟨rfl, hP, hK⟩ := hv
  have hx := B.exec
  have hb := B.bytes
  have hr := B.returns
  have hts := atoms_spec (ws := (ws_ yX1_peek cX1_peek 2 (some .int))) B.pre
  have hts : ∀ w ∈ lw_all, w.before _ s = true := fun w h => hts w (List.mem_cons_of_mem _ h)
  have hown : s.vm.findClass RX1 = some m.cls := findClass_of_methodNamed B.named
  have hlocks := B.notSynchronized
  have hP : va_P (dC, dI) vwCl (mc_W1 g0 pr pm d v) s.heap := hP
  have hl := lv_entry ([.ref g0, .int a]) (n := 2) (Nat.le_of_ble_eq_true rfl)
  rw [lg_entry_eq]
  generalize (lg_sl ([.ref g0, .int a]) ++ List.replicate (2 - (lg_sl ([.ref g0, .int a])).length) Slot.unset).toArray = ls at hl ⊢
  have hl : lv_has ls 2 [(0, .ref g0), (1, .int a)] := hl
  refine lv_iload_n hx hb dX1_peek_0 rfl (lv_at hl 1 rfl) ?_
  refine lv_if_lt (tgt := 19) hx hb dX1_peek_1 (by decide) (fun c_1 => ?_) (fun c_1 => ?_)
  · refine lv_iconst (v := (-1)) hx hb dX1_peek_19 (by decide) ?_
    exact W.iret (v := (-1)) hx hb hr (fun t ht hW => ⟨(-1), rfl, (by show (-1) = peekG v a; unfold peekG; rw [if_pos c_1]), ht⟩) (fun q h => by cases h) dX1_peek_20
  · refine lv_iload_n hx hb dX1_peek_4 rfl (lv_at hl 1 rfl) ?_
    refine lv_bipush (v := 63) hx hb dX1_peek_5 (by decide) ?_
    refine lv_icmp_gt (tgt := 19) hx hb dX1_peek_7 (by decide) (fun c_2 => ?_) (fun c_2 => ?_)
    · refine lv_iconst (v := (-1)) hx hb dX1_peek_19 (by decide) ?_
      exact W.iret (v := (-1)) hx hb hr (fun t ht hW => ⟨(-1), rfl, (by show (-1) = peekG v a; unfold peekG; rw [if_neg c_1, if_pos c_2]), ht⟩) (fun q h => by cases h) dX1_peek_20
    · refine lv_aload_n hx hb dX1_peek_10 rfl (lv_at hl 0 rfl) ?_
      refine va_get (D := (dC, dI)) (ci := 1) (v := .ref pm) (C := RX1) (T := TX1) (N := 6) hx hb hts in_X1 hown hK hP 0 rfl rfl 1 (by decide) (hts _ q214) (fun _ h9 => h9) rfl dX1_peek_11 ?_
      refine lv_iload_n hx hb dX1_peek_14 rfl (lv_at hl 1 rfl) ?_
      refine va_iald hx hb hK hP 2 0 rfl rfl (in_lt (n := 63) (by decide) c_1 c_2) dX1_peek_15 ?_
      refine lv_goto (tgt := 20) hx hb dX1_peek_16 (by decide) ?_
      exact W.iret (v := t_mm v a.toNatClampNeg) hx hb hr (fun t ht hW => ⟨t_mm v a.toNatClampNeg, rfl, (by show t_mm v a.toNatClampNeg = peekG v a; unfold peekG; rw [if_neg c_1, if_neg c_2]), ht⟩) (fun q h => by cases h) dX1_peek_20
set_option maxHeartbeats 4000000 in
set_option maxRecDepth 100000 in
theorem met1_register (l : Launch) (dC : Nat → ClassId) (dI : Nat → Nat → Nat) (g0 pr pm : Nat) (d : ClassId) (v : mc_S1) (a : Int32) : Met l yX1_register (ws_ yX1_register cX1_register 2 (some .int)) ({ frames := 0, cells := 0, slots := 0, locals := 0 }) (va_Pc [.ref g0, .int a] (fun U => va_P (dC, dI) vwCl (mc_W1 g0 pr pm d v) U.heap ∧ va_K (dC, dI) vwCl [(d, .int)] U)) (vp_Si (fun r => r = regG v a)) 0 0 (fun _ => False) := by
  refine Met.ofW (cc := cX1_register) (maxL := 2) (ret := (some .int)) (by decide) rfl ?_
  intro p e s m args below meth c s₁ B hml hv
  obtain ⟨rfl, hP, hK⟩ := hv
  have hx := B.exec
  have hb := B.bytes
  have hr := B.returns
  have hts := atoms_spec (ws := (ws_ yX1_register cX1_register 2 (some .int))) B.pre
  have hts : ∀ w ∈ lw_all, w.before _ s = true := fun w h => hts w (List.mem_cons_of_mem _ h)
  have hown : s.vm.findClass RX1 = some m.cls := findClass_of_methodNamed B.named
  have hlocks := B.notSynchronized
  have hP : va_P (dC, dI) vwCl (mc_W1 g0 pr pm d v) s.heap := hP
  have hl := lv_entry ([.ref g0, .int a]) (n := 2) (Nat.le_of_ble_eq_true rfl)
  rw [lg_entry_eq]
  generalize (lg_sl ([.ref g0, .int a]) ++ List.replicate (2 - (lg_sl ([.ref g0, .int a])).length) Slot.unset).toArray = ls at hl ⊢
  have hl : lv_has ls 2 [(0, .ref g0), (1, .int a)] := hl
  refine lv_iload_n hx hb dX1_register_0 rfl (lv_at hl 1 rfl) ?_
  refine lv_if_lt (tgt := 19) hx hb dX1_register_1 (by decide) (fun c_1 => ?_) (fun c_1 => ?_)
  · refine lv_iconst (v := (-1)) hx hb dX1_register_19 (by decide) ?_
    exact W.iret (v := (-1)) hx hb hr (fun t ht hW => ⟨(-1), rfl, (by show (-1) = regG v a; unfold regG; rw [if_pos c_1]), ht⟩) (fun q h => by cases h) dX1_register_20
  · refine lv_iload_n hx hb dX1_register_4 rfl (lv_at hl 1 rfl) ?_
    refine lv_bipush (v := 7) hx hb dX1_register_5 (by decide) ?_
    refine lv_icmp_gt (tgt := 19) hx hb dX1_register_7 (by decide) (fun c_2 => ?_) (fun c_2 => ?_)
    · refine lv_iconst (v := (-1)) hx hb dX1_register_19 (by decide) ?_
      exact W.iret (v := (-1)) hx hb hr (fun t ht hW => ⟨(-1), rfl, (by show (-1) = regG v a; unfold regG; rw [if_neg c_1, if_pos c_2]), ht⟩) (fun q h => by cases h) dX1_register_20
    · refine lv_aload_n hx hb dX1_register_10 rfl (lv_at hl 0 rfl) ?_
      refine va_get (D := (dC, dI)) (ci := 1) (v := .ref pr) (C := RX1) (T := TX1) (N := 6) hx hb hts in_X1 hown hK hP 0 rfl rfl 0 (by decide) (hts _ q213) (fun _ h9 => h9) rfl dX1_register_11 ?_
      refine lv_iload_n hx hb dX1_register_14 rfl (lv_at hl 1 rfl) ?_
      refine va_iald hx hb hK hP 1 0 rfl rfl (in_lt (n := 7) (by decide) c_1 c_2) dX1_register_15 ?_
      refine lv_goto (tgt := 20) hx hb dX1_register_16 (by decide) ?_
      exact W.iret (v := t_rr v a.toNatClampNeg) hx hb hr (fun t ht hW => ⟨t_rr v a.toNatClampNeg, rfl, (by show t_rr v a.toNatClampNeg = regG v a; unfold regG; rw [if_neg c_1, if_neg c_2]), ht⟩) (fun q h => by cases h) dX1_register_20
set_option maxHeartbeats 4000000 in
set_option maxRecDepth 100000 in
theorem met1_place (l : Launch) (dC : Nat → ClassId) (dI : Nat → Nat → Nat) (g0 pr pm : Nat) (d : ClassId) (v : mc_S1) : Met l yX1_place (ws_ yX1_place cX1_place 1 (some .int)) ({ frames := 0, cells := 0, slots := 0, locals := 0 }) (va_Pc [.ref g0] (fun U => va_P (dC, dI) vwCl (mc_W1 g0 pr pm d v) U.heap ∧ va_K (dC, dI) vwCl [(d, .int)] U)) (vp_Si (fun r => r = t_pc v)) 0 0 (fun _ => False) := by
  refine Met.ofW (cc := cX1_place) (maxL := 1) (ret := (some .int)) (by decide) rfl ?_
  intro p e s m args below meth c s₁ B hml hv
  obtain ⟨rfl, hP, hK⟩ := hv
  have hx := B.exec
  have hb := B.bytes
  have hr := B.returns
  have hts := atoms_spec (ws := (ws_ yX1_place cX1_place 1 (some .int))) B.pre
  have hts : ∀ w ∈ lw_all, w.before _ s = true := fun w h => hts w (List.mem_cons_of_mem _ h)
  have hown : s.vm.findClass RX1 = some m.cls := findClass_of_methodNamed B.named
  have hlocks := B.notSynchronized
  have hP : va_P (dC, dI) vwCl (mc_W1 g0 pr pm d v) s.heap := hP
  have hl := lv_entry ([.ref g0]) (n := 1) (Nat.le_of_ble_eq_true rfl)
  rw [lg_entry_eq]
  generalize (lg_sl ([.ref g0]) ++ List.replicate (1 - (lg_sl ([.ref g0])).length) Slot.unset).toArray = ls at hl ⊢
  have hl : lv_has ls 1 [(0, .ref g0)] := hl
  refine lv_aload_n hx hb dX1_place_0 rfl (lv_at hl 0 rfl) ?_
  refine va_get (D := (dC, dI)) (ci := 1) (v := .int (t_pc v)) (C := RX1) (T := TX1) (N := 6) hx hb hts in_X1 hown hK hP 0 rfl rfl 2 (by decide) (hts _ q215) (fun _ h9 => h9) rfl dX1_place_1 ?_
  exact W.iret (v := t_pc v) hx hb hr (fun t ht hW => ⟨t_pc v, rfl, rfl, ht⟩) (fun q h => by cases h) dX1_place_4
set_option maxHeartbeats 4000000 in
set_option maxRecDepth 100000 in
theorem met1_sign (l : Launch) (dC : Nat → ClassId) (dI : Nat → Nat → Nat) (g0 pr pm : Nat) (d : ClassId) (v : mc_S1) : Met l yX1_sign (ws_ yX1_sign cX1_sign 1 (some .int)) ({ frames := 0, cells := 0, slots := 0, locals := 0 }) (va_Pc [.ref g0] (fun U => va_P (dC, dI) vwCl (mc_W1 g0 pr pm d v) U.heap ∧ va_K (dC, dI) vwCl [(d, .int)] U)) (vp_Si (fun r => r = t_sg v)) 0 0 (fun _ => False) := by
  refine Met.ofW (cc := cX1_sign) (maxL := 1) (ret := (some .int)) (by decide) rfl ?_
  intro p e s m args below meth c s₁ B hml hv
  obtain ⟨rfl, hP, hK⟩ := hv
  have hx := B.exec
  have hb := B.bytes
  have hr := B.returns
  have hts := atoms_spec (ws := (ws_ yX1_sign cX1_sign 1 (some .int))) B.pre
  have hts : ∀ w ∈ lw_all, w.before _ s = true := fun w h => hts w (List.mem_cons_of_mem _ h)
  have hown : s.vm.findClass RX1 = some m.cls := findClass_of_methodNamed B.named
  have hlocks := B.notSynchronized
  have hP : va_P (dC, dI) vwCl (mc_W1 g0 pr pm d v) s.heap := hP
  have hl := lv_entry ([.ref g0]) (n := 1) (Nat.le_of_ble_eq_true rfl)
  rw [lg_entry_eq]
  generalize (lg_sl ([.ref g0]) ++ List.replicate (1 - (lg_sl ([.ref g0])).length) Slot.unset).toArray = ls at hl ⊢
  have hl : lv_has ls 1 [(0, .ref g0)] := hl
  refine lv_aload_n hx hb dX1_sign_0 rfl (lv_at hl 0 rfl) ?_
  refine va_get (D := (dC, dI)) (ci := 1) (v := .int (t_sg v)) (C := RX1) (T := TX1) (N := 6) hx hb hts in_X1 hown hK hP 0 rfl rfl 3 (by decide) (hts _ q216) (fun _ h9 => h9) rfl dX1_sign_1 ?_
  exact W.iret (v := t_sg v) hx hb hr (fun t ht hW => ⟨t_sg v, rfl, rfl, ht⟩) (fun q h => by cases h) dX1_sign_4
set_option maxHeartbeats 4000000 in
set_option maxRecDepth 100000 in
theorem met1_status (l : Launch) (dC : Nat → ClassId) (dI : Nat → Nat → Nat) (g0 pr pm : Nat) (d : ClassId) (v : mc_S1) : Met l yX1_status (ws_ yX1_status cX1_status 1 (some .int)) ({ frames := 0, cells := 0, slots := 0, locals := 0 }) (va_Pc [.ref g0] (fun U => va_P (dC, dI) vwCl (mc_W1 g0 pr pm d v) U.heap ∧ va_K (dC, dI) vwCl [(d, .int)] U)) (vp_Si (fun r => r = t_st v)) 0 0 (fun _ => False) := by
  refine Met.ofW (cc := cX1_status) (maxL := 1) (ret := (some .int)) (by decide) rfl ?_
  intro p e s m args below meth c s₁ B hml hv
  obtain ⟨rfl, hP, hK⟩ := hv
  have hx := B.exec
  have hb := B.bytes
  have hr := B.returns
  have hts := atoms_spec (ws := (ws_ yX1_status cX1_status 1 (some .int))) B.pre
  have hts : ∀ w ∈ lw_all, w.before _ s = true := fun w h => hts w (List.mem_cons_of_mem _ h)
  have hown : s.vm.findClass RX1 = some m.cls := findClass_of_methodNamed B.named
  have hlocks := B.notSynchronized
  have hP : va_P (dC, dI) vwCl (mc_W1 g0 pr pm d v) s.heap := hP
  have hl := lv_entry ([.ref g0]) (n := 1) (Nat.le_of_ble_eq_true rfl)
  rw [lg_entry_eq]
  generalize (lg_sl ([.ref g0]) ++ List.replicate (1 - (lg_sl ([.ref g0])).length) Slot.unset).toArray = ls at hl ⊢
  have hl : lv_has ls 1 [(0, .ref g0)] := hl
  refine lv_aload_n hx hb dX1_status_0 rfl (lv_at hl 0 rfl) ?_
  refine va_get (D := (dC, dI)) (ci := 1) (v := .int (t_st v)) (C := RX1) (T := TX1) (N := 6) hx hb hts in_X1 hown hK hP 0 rfl rfl 4 (by decide) (hts _ q217) (fun _ h9 => h9) rfl dX1_status_1 ?_
  exact W.iret (v := t_st v) hx hb hr (fun t ht hW => ⟨t_st v, rfl, rfl, ht⟩) (fun q h => by cases h) dX1_status_4
set_option maxHeartbeats 4000000 in
set_option maxRecDepth 100000 in
theorem met1_count (l : Launch) (dC : Nat → ClassId) (dI : Nat → Nat → Nat) (g0 pr pm : Nat) (d : ClassId) (v : mc_S1) : Met l yX1_count (ws_ yX1_count cX1_count 1 (some .int)) ({ frames := 0, cells := 0, slots := 0, locals := 0 }) (va_Pc [.ref g0] (fun U => va_P (dC, dI) vwCl (mc_W1 g0 pr pm d v) U.heap ∧ va_K (dC, dI) vwCl [(d, .int)] U)) (vp_Si (fun r => r = t_ex v)) 0 0 (fun _ => False) := by
  refine Met.ofW (cc := cX1_count) (maxL := 1) (ret := (some .int)) (by decide) rfl ?_
  intro p e s m args below meth c s₁ B hml hv
  obtain ⟨rfl, hP, hK⟩ := hv
  have hx := B.exec
  have hb := B.bytes
  have hr := B.returns
  have hts := atoms_spec (ws := (ws_ yX1_count cX1_count 1 (some .int))) B.pre
  have hts : ∀ w ∈ lw_all, w.before _ s = true := fun w h => hts w (List.mem_cons_of_mem _ h)
  have hown : s.vm.findClass RX1 = some m.cls := findClass_of_methodNamed B.named
  have hlocks := B.notSynchronized
  have hP : va_P (dC, dI) vwCl (mc_W1 g0 pr pm d v) s.heap := hP
  have hl := lv_entry ([.ref g0]) (n := 1) (Nat.le_of_ble_eq_true rfl)
  rw [lg_entry_eq]
  generalize (lg_sl ([.ref g0]) ++ List.replicate (1 - (lg_sl ([.ref g0])).length) Slot.unset).toArray = ls at hl ⊢
  have hl : lv_has ls 1 [(0, .ref g0)] := hl
  refine lv_aload_n hx hb dX1_count_0 rfl (lv_at hl 0 rfl) ?_
  refine va_get (D := (dC, dI)) (ci := 1) (v := .int (t_ex v)) (C := RX1) (T := TX1) (N := 6) hx hb hts in_X1 hown hK hP 0 rfl rfl 5 (by decide) (hts _ q218) (fun _ h9 => h9) rfl dX1_count_1 ?_
  exact W.iret (v := t_ex v) hx hb hr (fun t ht hW => ⟨t_ex v, rfl, rfl, ht⟩) (fun q h => by cases h) dX1_count_4
end
section
/-! MicroLc3Model: give, poke, setRegister, start; wc_1: a void call of its own -/
set_option maxHeartbeats 4000000 in
set_option maxRecDepth 100000 in
theorem met1_poke (l : Launch) (dC : Nat → ClassId) (dI : Nat → Nat → Nat) (g0 pr pm : Nat) (d : ClassId) (sz : Nat) (v : mc_S1) (a b : Int32) : Met l yX1_poke (ws_ yX1_poke cX1_poke 3 (some .boolean)) ({ frames := 1, cells := 0, slots := 0, locals := 21 }) (va_Pc [.ref g0, .int a, .int b] (mc_P1 dC dI g0 pr pm d sz v)) (va_Qi (fun (r : Int32) (v' : mc_S1) => r = (pokeG v a b).1 ∧ v' = (pokeG v a b).2) (mc_B1 dC dI (va_A (mc_W1 g0 pr pm d v) sz) g0 pr pm d) (va_A (mc_W1 g0 pr pm d v) sz)) 0 0 (va_A (mc_W1 g0 pr pm d v) sz) := by
  refine Met.ofW (cc := cX1_poke) (maxL := 3) (ret := (some .boolean)) (by decide) rfl ?_
  intro p e s m args below meth c s₁ B hml hv
  obtain ⟨rfl, hsz, hP, hK, hD0⟩ := hv
  have hx := B.exec
  have hb := B.bytes
  have hr := B.returns
  have hts := atoms_spec (ws := (ws_ yX1_poke cX1_poke 3 (some .boolean))) B.pre
  have hts : ∀ w ∈ lw_all, w.before _ s = true := fun w h => hts w (List.mem_cons_of_mem _ h)
  have hown : s.vm.findClass RX1 = some m.cls := findClass_of_methodNamed B.named
  have hlocks := B.notSynchronized
  subst hsz
  have hD := hD0.self (sz := s.heap.size)
  generalize hAe : va_A (mc_W1 g0 pr pm d v) s.heap.size = A at hD ⊢
  have hA : ∀ q : Nat, s.heap.size ≤ q → A q := fun q h => by rw [← hAe]; exact Or.inr h
  have hS : va_S A s.heap s.heap [] := va_S.rf
  have hP : va_P (dC, dI) vwCl (mc_W1 g0 pr pm d v) s.heap := hP
  have hl := lv_entry ([.ref g0, .int a, .int b]) (n := 3) (Nat.le_of_ble_eq_true rfl)
  rw [lg_entry_eq]
  generalize (lg_sl ([.ref g0, .int a, .int b]) ++ List.replicate (3 - (lg_sl ([.ref g0, .int a, .int b])).length) Slot.unset).toArray = ls at hl ⊢
  have hl : lv_has ls 3 [(0, .ref g0), (1, .int a), (2, .int b)] := hl
  refine lv_iload_n hx hb dX1_poke_0 rfl (lv_at hl 1 rfl) ?_
  refine lv_if_lt (tgt := 18) hx hb dX1_poke_1 (by decide) (fun c_1 => ?_) (fun c_1 => ?_)
  · refine lv_iconst (v := 0) hx hb dX1_poke_18 (by decide) ?_
    exact W.zret (v := 0) hx hb hr rfl (fun t ht hW => ⟨⟨0, v, rfl, (by rw [show pokeG v a b = (0, v) from by unfold pokeG; rw [if_pos c_1]]; exact ⟨rfl, rfl⟩), by rw [ht]; exact hP, va_K.moved hW.alike hK, hD⟩, hS.F ht⟩) hS.2.2 dX1_poke_19
  · refine lv_iload_n hx hb dX1_poke_4 rfl (lv_at hl 1 rfl) ?_
    refine lv_bipush (v := 63) hx hb dX1_poke_5 (by decide) ?_
    refine lv_icmp_gt (tgt := 18) hx hb dX1_poke_7 (by decide) (fun c_2 => ?_) (fun c_2 => ?_)
    · refine lv_iconst (v := 0) hx hb dX1_poke_18 (by decide) ?_
      exact W.zret (v := 0) hx hb hr rfl (fun t ht hW => ⟨⟨0, v, rfl, (by rw [show pokeG v a b = (0, v) from by unfold pokeG; rw [if_neg c_1, if_pos c_2]]; exact ⟨rfl, rfl⟩), by rw [ht]; exact hP, va_K.moved hW.alike hK, hD⟩, hS.F ht⟩) hS.2.2 dX1_poke_19
    · refine lv_aload_n hx hb dX1_poke_10 rfl (lv_at hl 0 rfl) ?_
      refine lv_iload_n hx hb dX1_poke_11 rfl (lv_at hl 2 rfl) ?_
      refine rd1_isWord ⟨hx, hb, hml, hown, hts⟩ hK hP ⟨Nat.le_of_ble_eq_true rfl, Nat.le_of_ble_eq_true rfl⟩ hl.1 (Nat.le_of_ble_eq_true rfl) dX1_poke_12 ⟨Nat.zero_le _, Nat.zero_le _⟩ ?_
      refine lv_if_ne (tgt := 20) hx hb dX1_poke_15 (by decide) (fun c_3 => ?_) (fun c_3 => ?_)
      · refine lv_aload_n hx hb dX1_poke_20 rfl (lv_at hl 0 rfl) ?_
        refine va_get (D := (dC, dI)) (ci := 1) (v := .ref pm) (C := RX1) (T := TX1) (N := 6) hx hb hts in_X1 hown hK hP 0 rfl rfl 1 (by decide) (hts _ q214) (fun _ h9 => h9) rfl dX1_poke_21 ?_
        refine lv_iload_n hx hb dX1_poke_24 rfl (lv_at hl 1 rfl) ?_
        refine lv_iload_n hx hb dX1_poke_25 rfl (lv_at hl 2 rfl) ?_
        refine va_iast hx hb hK hP hD hS 2 0 rfl rfl (in_lt (n := 63) (by decide) c_1 c_2) dX1_poke_26 (fun H locs hP hD hS => ?_)
        have hP : va_P (dC, dI) vwCl (mc_W1 g0 pr pm d (putt_mm v (upd (t_mm v) a.toNatClampNeg b))) H := hP
        have hD : va_D A (mc_W1 g0 pr pm d (putt_mm v (upd (t_mm v) a.toNatClampNeg b))) := hD
        refine lv_iconst (v := 1) hx hb dX1_poke_27 (by decide) ?_
        exact W.zret (v := 1) hx hb hr rfl (fun t ht hW => ⟨⟨1, (putt_mm v (upd (t_mm v) a.toNatClampNeg b)), rfl, (by rw [show pokeG v a b = (1, putt_mm v (upd (t_mm v) a.toNatClampNeg b)) from by unfold pokeG; rw [if_neg c_1, if_neg c_2, if_neg c_3]]; exact ⟨rfl, rfl⟩), by rw [ht]; exact hP, va_K.moved hW.alike hK, hD⟩, hS.F ht⟩) hS.2.2 dX1_poke_28
      · refine lv_iconst (v := 0) hx hb dX1_poke_18 (by decide) ?_
        exact W.zret (v := 0) hx hb hr rfl (fun t ht hW => ⟨⟨0, v, rfl, (by rw [show pokeG v a b = (0, v) from by unfold pokeG; rw [if_neg c_1, if_neg c_2, if_pos c_3]]; exact ⟨rfl, rfl⟩), by rw [ht]; exact hP, va_K.moved hW.alike hK, hD⟩, hS.F ht⟩) hS.2.2 dX1_poke_19
set_option maxHeartbeats 4000000 in
set_option maxRecDepth 100000 in
theorem met1_setRegister (l : Launch) (dC : Nat → ClassId) (dI : Nat → Nat → Nat) (g0 pr pm : Nat) (d : ClassId) (sz : Nat) (v : mc_S1) (a b : Int32) : Met l yX1_setRegister (ws_ yX1_setRegister cX1_setRegister 3 (some .boolean)) ({ frames := 1, cells := 0, slots := 0, locals := 21 }) (va_Pc [.ref g0, .int a, .int b] (mc_P1 dC dI g0 pr pm d sz v)) (va_Qi (fun (r : Int32) (v' : mc_S1) => r = (setG v a b).1 ∧ v' = (setG v a b).2) (mc_B1 dC dI (va_A (mc_W1 g0 pr pm d v) sz) g0 pr pm d) (va_A (mc_W1 g0 pr pm d v) sz)) 0 0 (va_A (mc_W1 g0 pr pm d v) sz) := by
  refine Met.ofW (cc := cX1_setRegister) (maxL := 3) (ret := (some .boolean)) (by decide) rfl ?_
  intro p e s m args below meth c s₁ B hml hv
  obtain ⟨rfl, hsz, hP, hK, hD0⟩ := hv
  have hx := B.exec
  have hb := B.bytes
  have hr := B.returns
  have hts := atoms_spec (ws := (ws_ yX1_setRegister cX1_setRegister 3 (some .boolean))) B.pre
  have hts : ∀ w ∈ lw_all, w.before _ s = true := fun w h => hts w (List.mem_cons_of_mem _ h)
  have hown : s.vm.findClass RX1 = some m.cls := findClass_of_methodNamed B.named
  have hlocks := B.notSynchronized
  subst hsz
  have hD := hD0.self (sz := s.heap.size)
  generalize hAe : va_A (mc_W1 g0 pr pm d v) s.heap.size = A at hD ⊢
  have hA : ∀ q : Nat, s.heap.size ≤ q → A q := fun q h => by rw [← hAe]; exact Or.inr h
  have hS : va_S A s.heap s.heap [] := va_S.rf
  have hP : va_P (dC, dI) vwCl (mc_W1 g0 pr pm d v) s.heap := hP
  have hl := lv_entry ([.ref g0, .int a, .int b]) (n := 3) (Nat.le_of_ble_eq_true rfl)
  rw [lg_entry_eq]
  generalize (lg_sl ([.ref g0, .int a, .int b]) ++ List.replicate (3 - (lg_sl ([.ref g0, .int a, .int b])).length) Slot.unset).toArray = ls at hl ⊢
  have hl : lv_has ls 3 [(0, .ref g0), (1, .int a), (2, .int b)] := hl
  refine lv_iload_n hx hb dX1_setRegister_0 rfl (lv_at hl 1 rfl) ?_
  refine lv_if_lt (tgt := 18) hx hb dX1_setRegister_1 (by decide) (fun c_1 => ?_) (fun c_1 => ?_)
  · refine lv_iconst (v := 0) hx hb dX1_setRegister_18 (by decide) ?_
    exact W.zret (v := 0) hx hb hr rfl (fun t ht hW => ⟨⟨0, v, rfl, (by rw [show setG v a b = (0, v) from by unfold setG; rw [if_pos c_1]]; exact ⟨rfl, rfl⟩), by rw [ht]; exact hP, va_K.moved hW.alike hK, hD⟩, hS.F ht⟩) hS.2.2 dX1_setRegister_19
  · refine lv_iload_n hx hb dX1_setRegister_4 rfl (lv_at hl 1 rfl) ?_
    refine lv_bipush (v := 7) hx hb dX1_setRegister_5 (by decide) ?_
    refine lv_icmp_gt (tgt := 18) hx hb dX1_setRegister_7 (by decide) (fun c_2 => ?_) (fun c_2 => ?_)
    · refine lv_iconst (v := 0) hx hb dX1_setRegister_18 (by decide) ?_
      exact W.zret (v := 0) hx hb hr rfl (fun t ht hW => ⟨⟨0, v, rfl, (by rw [show setG v a b = (0, v) from by unfold setG; rw [if_neg c_1, if_pos c_2]]; exact ⟨rfl, rfl⟩), by rw [ht]; exact hP, va_K.moved hW.alike hK, hD⟩, hS.F ht⟩) hS.2.2 dX1_setRegister_19
    · refine lv_aload_n hx hb dX1_setRegister_10 rfl (lv_at hl 0 rfl) ?_
      refine lv_iload_n hx hb dX1_setRegister_11 rfl (lv_at hl 2 rfl) ?_
      refine rd1_isWord ⟨hx, hb, hml, hown, hts⟩ hK hP ⟨Nat.le_of_ble_eq_true rfl, Nat.le_of_ble_eq_true rfl⟩ hl.1 (Nat.le_of_ble_eq_true rfl) dX1_setRegister_12 ⟨Nat.zero_le _, Nat.zero_le _⟩ ?_
      refine lv_if_ne (tgt := 20) hx hb dX1_setRegister_15 (by decide) (fun c_3 => ?_) (fun c_3 => ?_)
      · refine lv_aload_n hx hb dX1_setRegister_20 rfl (lv_at hl 0 rfl) ?_
        refine va_get (D := (dC, dI)) (ci := 1) (v := .ref pr) (C := RX1) (T := TX1) (N := 6) hx hb hts in_X1 hown hK hP 0 rfl rfl 0 (by decide) (hts _ q213) (fun _ h9 => h9) rfl dX1_setRegister_21 ?_
        refine lv_iload_n hx hb dX1_setRegister_24 rfl (lv_at hl 1 rfl) ?_
        refine lv_iload_n hx hb dX1_setRegister_25 rfl (lv_at hl 2 rfl) ?_
        refine va_iast hx hb hK hP hD hS 1 0 rfl rfl (in_lt (n := 7) (by decide) c_1 c_2) dX1_setRegister_26 (fun H locs hP hD hS => ?_)
        have hP : va_P (dC, dI) vwCl (mc_W1 g0 pr pm d (putt_rr v (upd (t_rr v) a.toNatClampNeg b))) H := hP
        have hD : va_D A (mc_W1 g0 pr pm d (putt_rr v (upd (t_rr v) a.toNatClampNeg b))) := hD
        refine lv_iconst (v := 1) hx hb dX1_setRegister_27 (by decide) ?_
        exact W.zret (v := 1) hx hb hr rfl (fun t ht hW => ⟨⟨1, (putt_rr v (upd (t_rr v) a.toNatClampNeg b)), rfl, (by rw [show setG v a b = (1, putt_rr v (upd (t_rr v) a.toNatClampNeg b)) from by unfold setG; rw [if_neg c_1, if_neg c_2, if_neg c_3]]; exact ⟨rfl, rfl⟩), by rw [ht]; exact hP, va_K.moved hW.alike hK, hD⟩, hS.F ht⟩) hS.2.2 dX1_setRegister_28
      · refine lv_iconst (v := 0) hx hb dX1_setRegister_18 (by decide) ?_
        exact W.zret (v := 0) hx hb hr rfl (fun t ht hW => ⟨⟨0, v, rfl, (by rw [show setG v a b = (0, v) from by unfold setG; rw [if_neg c_1, if_neg c_2, if_pos c_3]]; exact ⟨rfl, rfl⟩), by rw [ht]; exact hP, va_K.moved hW.alike hK, hD⟩, hS.F ht⟩) hS.2.2 dX1_setRegister_19
set_option maxHeartbeats 4000000 in
set_option maxRecDepth 100000 in
theorem met1_start (l : Launch) (dC : Nat → ClassId) (dI : Nat → Nat → Nat) (g0 pr pm : Nat) (d : ClassId) (sz : Nat) (v : mc_S1) (b : Int32) : Met l yX1_start (ws_ yX1_start cX1_start 2 (some .boolean)) ({ frames := 1, cells := 0, slots := 0, locals := 21 }) (va_Pc [.ref g0, .int b] (mc_P1 dC dI g0 pr pm d sz v)) (va_Qi (fun (r : Int32) (v' : mc_S1) => r = (startG v b).1 ∧ v' = (startG v b).2) (mc_B1 dC dI (va_A (mc_W1 g0 pr pm d v) sz) g0 pr pm d) (va_A (mc_W1 g0 pr pm d v) sz)) 0 0 (va_A (mc_W1 g0 pr pm d v) sz) := by
  refine Met.ofW (cc := cX1_start) (maxL := 2) (ret := (some .boolean)) (by decide) rfl ?_
  intro p e s m args below meth c s₁ B hml hv
  obtain ⟨rfl, hsz, hP, hK, hD0⟩ := hv
  have hx := B.exec
  have hb := B.bytes
  have hr := B.returns
  have hts := atoms_spec (ws := (ws_ yX1_start cX1_start 2 (some .boolean))) B.pre
  have hts : ∀ w ∈ lw_all, w.before _ s = true := fun w h => hts w (List.mem_cons_of_mem _ h)
  have hown : s.vm.findClass RX1 = some m.cls := findClass_of_methodNamed B.named
  have hlocks := B.notSynchronized
  subst hsz
  have hD := hD0.self (sz := s.heap.size)
  generalize hAe : va_A (mc_W1 g0 pr pm d v) s.heap.size = A at hD ⊢
  have hA : ∀ q : Nat, s.heap.size ≤ q → A q := fun q h => by rw [← hAe]; exact Or.inr h
  have hS : va_S A s.heap s.heap [] := va_S.rf
  have hP : va_P (dC, dI) vwCl (mc_W1 g0 pr pm d v) s.heap := hP
  have hl := lv_entry ([.ref g0, .int b]) (n := 2) (Nat.le_of_ble_eq_true rfl)
  rw [lg_entry_eq]
  generalize (lg_sl ([.ref g0, .int b]) ++ List.replicate (2 - (lg_sl ([.ref g0, .int b])).length) Slot.unset).toArray = ls at hl ⊢
  have hl : lv_has ls 2 [(0, .ref g0), (1, .int b)] := hl
  refine lv_aload_n hx hb dX1_start_0 rfl (lv_at hl 0 rfl) ?_
  refine lv_iload_n hx hb dX1_start_1 rfl (lv_at hl 1 rfl) ?_
  refine rd1_isWord ⟨hx, hb, hml, hown, hts⟩ hK hP ⟨Nat.le_of_ble_eq_true rfl, Nat.le_of_ble_eq_true rfl⟩ hl.1 (Nat.le_of_ble_eq_true rfl) dX1_start_2 ⟨Nat.zero_le _, Nat.zero_le _⟩ ?_
  refine lv_if_ne (tgt := 10) hx hb dX1_start_5 (by decide) (fun c_1 => ?_) (fun c_1 => ?_)
  · refine lv_aload_n hx hb dX1_start_10 rfl (lv_at hl 0 rfl) ?_
    refine lv_iload_n hx hb dX1_start_11 rfl (lv_at hl 1 rfl) ?_
    refine va_put (D := (dC, dI)) (ci := 1) (v := .int b) (ty := .int) (C := RX1) (T := TX1) (N := 6) hx hb hts in_X1 tyX1 tyX1_ok nmX1 hown hK hP hD hS 0 rfl rfl 2 (by decide) (hts _ q215) (fun _ h9 => h9) rfl (by decide +kernel) rfl rfl (Nat.le_of_ble_eq_true rfl) dX1_start_12 (fun H locs hP hD hS => ?_)
    have hP : va_P (dC, dI) vwCl (mc_W1 g0 pr pm d (putt_pc v b)) H := hP
    have hD : va_D A (mc_W1 g0 pr pm d (putt_pc v b)) := hD
    refine lv_aload_n hx hb dX1_start_15 rfl (lv_at hl 0 rfl) ?_
    refine lv_iconst (v := 0) hx hb dX1_start_16 (by decide) ?_
    refine va_put (D := (dC, dI)) (ci := 1) (v := .int 0) (ty := .int) (C := RX1) (T := TX1) (N := 6) hx hb hts in_X1 tyX1 tyX1_ok nmX1 hown hK hP hD hS 0 rfl rfl 4 (by decide) (hts _ q217) (fun _ h9 => h9) rfl (by decide +kernel) rfl rfl (Nat.le_of_ble_eq_true rfl) dX1_start_17 (fun H locs hP hD hS => ?_)
    have hP : va_P (dC, dI) vwCl (mc_W1 g0 pr pm d (putt_st (putt_pc v b) 0)) H := hP
    have hD : va_D A (mc_W1 g0 pr pm d (putt_st (putt_pc v b) 0)) := hD
    refine lv_iconst (v := 1) hx hb dX1_start_20 (by decide) ?_
    exact W.zret (v := 1) hx hb hr rfl (fun t ht hW => ⟨⟨1, (putt_st (putt_pc v b) 0), rfl, (by rw [show startG v b = (1, putt_st (putt_pc v b) 0) from by unfold startG; rw [if_neg c_1]]; exact ⟨rfl, rfl⟩), by rw [ht]; exact hP, va_K.moved hW.alike hK, hD⟩, hS.F ht⟩) hS.2.2 dX1_start_21
  · refine lv_iconst (v := 0) hx hb dX1_start_8 (by decide) ?_
    exact W.zret (v := 0) hx hb hr rfl (fun t ht hW => ⟨⟨0, v, rfl, (by rw [show startG v b = (0, v) from by unfold startG; rw [if_pos c_1]]; exact ⟨rfl, rfl⟩), by rw [ht]; exact hP, va_K.moved hW.alike hK, hD⟩, hS.F ht⟩) hS.2.2 dX1_start_9
set_option maxHeartbeats 4000000 in
set_option maxRecDepth 100000 in
theorem met1_give (l : Launch) (dC : Nat → ClassId) (dI : Nat → Nat → Nat) (g0 pr pm : Nat) (d : ClassId) (sz : Nat) (v : mc_S1) (a b : Int32) (ha : vp_in a 8) : Met l yX1_give (ws_ yX1_give cX1_give 4 none) ({ frames := 1, cells := 0, slots := 0, locals := 23 }) (va_Pc [.ref g0, .int a, .int b] (mc_P1 dC dI g0 pr pm d sz v)) (va_Qv (fun v' : mc_S1 => v' = giveF a b v) (mc_B1 dC dI (va_A (mc_W1 g0 pr pm d v) sz) g0 pr pm d) (va_A (mc_W1 g0 pr pm d v) sz)) 0 0 (va_A (mc_W1 g0 pr pm d v) sz) := by
  refine Met.ofW (cc := cX1_give) (maxL := 4) (ret := none) (by decide) rfl ?_
  intro p e s m args below meth c s₁ B hml hv
  obtain ⟨rfl, hsz, hP, hK, hD0⟩ := hv
  have hx := B.exec
  have hb := B.bytes
  have hr := B.returns
  have hts := atoms_spec (ws := (ws_ yX1_give cX1_give 4 none)) B.pre
  have hts : ∀ w ∈ lw_all, w.before _ s = true := fun w h => hts w (List.mem_cons_of_mem _ h)
  have hown : s.vm.findClass RX1 = some m.cls := findClass_of_methodNamed B.named
  have hlocks := B.notSynchronized
  subst hsz
  have hD := hD0.self (sz := s.heap.size)
  generalize hAe : va_A (mc_W1 g0 pr pm d v) s.heap.size = A at hD ⊢
  have hA : ∀ q : Nat, s.heap.size ≤ q → A q := fun q h => by rw [← hAe]; exact Or.inr h
  have hS : va_S A s.heap s.heap [] := va_S.rf
  have hP : va_P (dC, dI) vwCl (mc_W1 g0 pr pm d v) s.heap := hP
  have hl := lv_entry ([.ref g0, .int a, .int b]) (n := 4) (Nat.le_of_ble_eq_true rfl)
  rw [lg_entry_eq]
  generalize (lg_sl ([.ref g0, .int a, .int b]) ++ List.replicate (4 - (lg_sl ([.ref g0, .int a, .int b])).length) Slot.unset).toArray = ls at hl ⊢
  have hl : lv_has ls 4 [(0, .ref g0), (1, .int a), (2, .int b)] := hl
  refine lv_aload_n hx hb dX1_give_0 rfl (lv_at hl 0 rfl) ?_
  refine va_get (D := (dC, dI)) (ci := 1) (v := .ref pr) (C := RX1) (T := TX1) (N := 6) hx hb hts in_X1 hown hK hP 0 rfl rfl 0 (by decide) (hts _ q213) (fun _ h9 => h9) rfl dX1_give_1 ?_
  refine lv_iload_n hx hb dX1_give_4 rfl (lv_at hl 1 rfl) ?_
  refine lv_aload_n hx hb dX1_give_5 rfl (lv_at hl 0 rfl) ?_
  refine lv_iload_n hx hb dX1_give_6 rfl (lv_at hl 2 rfl) ?_
  refine rd1_word ⟨hx, hb, hml, hown, hts⟩ hK hP ⟨Nat.le_of_ble_eq_true rfl, Nat.le_of_ble_eq_true rfl⟩ hl.1 (Nat.le_of_ble_eq_true rfl) dX1_give_7 ⟨Nat.zero_le _, Nat.zero_le _⟩ ?_
  refine va_iast hx hb hK hP hD hS 1 0 rfl rfl ha dX1_give_10 (fun H locs hP hD hS => ?_)
  have hP : va_P (dC, dI) vwCl (mc_W1 g0 pr pm d (putt_rr v (upd (t_rr v) a.toNatClampNeg (wordF b)))) H := hP
  have hD : va_D A (mc_W1 g0 pr pm d (putt_rr v (upd (t_rr v) a.toNatClampNeg (wordF b)))) := hD
  refine lv_aload_n hx hb dX1_give_11 rfl (lv_at hl 0 rfl) ?_
  refine lv_aload_n hx hb dX1_give_12 rfl (lv_at hl 0 rfl) ?_
  refine va_get (D := (dC, dI)) (ci := 1) (v := .ref pr) (C := RX1) (T := TX1) (N := 6) hx hb hts in_X1 hown hK hP 0 rfl rfl 0 (by decide) (hts _ q213) (fun _ h9 => h9) rfl dX1_give_13 ?_
  refine lv_iload_n hx hb dX1_give_16 rfl (lv_at hl 1 rfl) ?_
  refine va_iald hx hb hK hP 1 0 rfl rfl ha dX1_give_17 ?_
  refine lv_bipush (v := 16) hx hb dX1_give_18 (by decide) ?_
  refine rd1_signed (b := 16) (by decide) ⟨hx, hb, hml, hown, hts⟩ hK hP ⟨Nat.le_of_ble_eq_true rfl, Nat.le_of_ble_eq_true rfl⟩ hl.1 (Nat.le_of_ble_eq_true rfl) dX1_give_20 ⟨Nat.zero_le _, Nat.zero_le _⟩ ?_
  refine lv_istore_n (lv' := [(3, .int (sgnF (t_rr (putt_rr v (upd (t_rr v) a.toNatClampNeg (wordF b))) a.toNatClampNeg) 16)), (0, .ref g0), (1, .int a), (2, .int b)]) hx hb dX1_give_23 rfl hl (by decide) rfl (fun ls hl => ?_)
  refine lv_aload_n hx hb dX1_give_24 rfl (lv_at hl 1 rfl) ?_
  refine lv_iload_n hx hb dX1_give_25 rfl (lv_at hl 0 rfl) ?_
  refine lv_if_ge (tgt := 33) hx hb dX1_give_26 (by decide) (fun c_1 => ?_) (fun c_1 => ?_)
  · refine lv_iload_n hx hb dX1_give_33 rfl (lv_at hl 0 rfl) ?_
    refine lv_if_le (tgt := 41) hx hb dX1_give_34 (by decide) (fun c_2 => ?_) (fun c_2 => ?_)
    · refine lv_iconst (v := 0) hx hb dX1_give_41 (by decide) ?_
      refine va_put (D := (dC, dI)) (ci := 1) (v := .int 0) (ty := .int) (C := RX1) (T := TX1) (N := 6) hx hb hts in_X1 tyX1 tyX1_ok nmX1 hown hK hP hD hS 0 rfl rfl 3 (by decide) (hts _ q216) (fun _ h9 => h9) rfl (by decide +kernel) rfl rfl (Nat.le_of_ble_eq_true rfl) dX1_give_42 (fun H locs hP hD hS => ?_)
      have hP : va_P (dC, dI) vwCl (mc_W1 g0 pr pm d (putt_sg (putt_rr v (upd (t_rr v) a.toNatClampNeg (wordF b))) 0)) H := hP
      have hD : va_D A (mc_W1 g0 pr pm d (putt_sg (putt_rr v (upd (t_rr v) a.toNatClampNeg (wordF b))) 0)) := hD
      exact W.vret hx hb hr (fun t ht hW => ⟨⟨(putt_sg (putt_rr v (upd (t_rr v) a.toNatClampNeg (wordF b))) 0), rfl, (by show putt_sg (putt_rr v (upd (t_rr v) a.toNatClampNeg (wordF b))) 0 = giveF a b v; unfold giveF sgOf; rw [if_pos c_1, if_pos c_2]), by rw [ht]; exact hP, va_K.moved hW.alike hK, hD⟩, hS.F ht⟩) hS.2.2 dX1_give_45
    · refine lv_iconst (v := 1) hx hb dX1_give_37 (by decide) ?_
      refine lv_goto (tgt := 42) hx hb dX1_give_38 (by decide) ?_
      refine va_put (D := (dC, dI)) (ci := 1) (v := .int 1) (ty := .int) (C := RX1) (T := TX1) (N := 6) hx hb hts in_X1 tyX1 tyX1_ok nmX1 hown hK hP hD hS 0 rfl rfl 3 (by decide) (hts _ q216) (fun _ h9 => h9) rfl (by decide +kernel) rfl rfl (Nat.le_of_ble_eq_true rfl) dX1_give_42 (fun H locs hP hD hS => ?_)
      have hP : va_P (dC, dI) vwCl (mc_W1 g0 pr pm d (putt_sg (putt_rr v (upd (t_rr v) a.toNatClampNeg (wordF b))) 1)) H := hP
      have hD : va_D A (mc_W1 g0 pr pm d (putt_sg (putt_rr v (upd (t_rr v) a.toNatClampNeg (wordF b))) 1)) := hD
      exact W.vret hx hb hr (fun t ht hW => ⟨⟨(putt_sg (putt_rr v (upd (t_rr v) a.toNatClampNeg (wordF b))) 1), rfl, (by show putt_sg (putt_rr v (upd (t_rr v) a.toNatClampNeg (wordF b))) 1 = giveF a b v; unfold giveF sgOf; rw [if_pos c_1, if_neg c_2]), by rw [ht]; exact hP, va_K.moved hW.alike hK, hD⟩, hS.F ht⟩) hS.2.2 dX1_give_45
  · refine lv_iconst (v := (-1)) hx hb dX1_give_29 (by decide) ?_
    refine lv_goto (tgt := 42) hx hb dX1_give_30 (by decide) ?_
    refine va_put (D := (dC, dI)) (ci := 1) (v := .int (-1)) (ty := .int) (C := RX1) (T := TX1) (N := 6) hx hb hts in_X1 tyX1 tyX1_ok nmX1 hown hK hP hD hS 0 rfl rfl 3 (by decide) (hts _ q216) (fun _ h9 => h9) rfl (by decide +kernel) rfl rfl (Nat.le_of_ble_eq_true rfl) dX1_give_42 (fun H locs hP hD hS => ?_)
    have hP : va_P (dC, dI) vwCl (mc_W1 g0 pr pm d (putt_sg (putt_rr v (upd (t_rr v) a.toNatClampNeg (wordF b))) (-1))) H := hP
    have hD : va_D A (mc_W1 g0 pr pm d (putt_sg (putt_rr v (upd (t_rr v) a.toNatClampNeg (wordF b))) (-1))) := hD
    exact W.vret hx hb hr (fun t ht hW => ⟨⟨(putt_sg (putt_rr v (upd (t_rr v) a.toNatClampNeg (wordF b))) (-1)), rfl, (by show putt_sg (putt_rr v (upd (t_rr v) a.toNatClampNeg (wordF b))) (-1) = giveF a b v; unfold giveF sgOf; rw [if_neg c_1]), by rw [ht]; exact hP, va_K.moved hW.alike hK, hD⟩, hS.F ht⟩) hS.2.2 dX1_give_45
theorem wc_1 {p : Program} {l : Launch} {e : Env} {R : Room} {s : State} {m : MethodId} {args : Array Value} {below : List Frame} {meth : Method} {c : Code} {H : Heap} {locs : List Loc} {cells slots : Nat} {Q : State → Prop} {cc : ByteArray} {pc nL : Nat} {ls : Array Slot} {rest : List Value} {dC : Nat → ClassId} {dI : Nat → Nat → Nat} {g0 pr pm : Nat} {d : ClassId} {v : mc_S1} {v1 : mc_S1} {A : Nat → Prop} {H0 : Heap} {y : MethodName} {b : ByteArray} {idx L n : Nat} {rm : Room} {As st0 : List Value} (S : CallFix p m c cc nL s args lw_all RX1) (hA : ∀ q : Nat, H0.size ≤ q → A q) (hM : ∀ sz : Nat, Met l y (ws_ y b L none) rm (va_Pc (.ref g0 :: As) (mc_P1 dC dI g0 pr pm d sz v)) (va_Qv (fun v' : mc_S1 => v' = v1) (mc_B1 dC dI (va_A (mc_W1 g0 pr pm d v) sz) g0 pr pm d) (va_A (mc_W1 g0 pr pm d v) sz)) 0 0 (va_A (mc_W1 g0 pr pm d v) sz)) (cw : CallW R s args RX1 RX1 idx y b L none (ws_ y b L none) rm 0 0 n) (hK : va_K (dC, dI) vwCl [(d, .int)] s) (hP : va_P (dC, dI) vwCl (mc_W1 g0 pr pm d v) H) (hD : va_D A (mc_W1 g0 pr pm d v)) (hS : va_S A H0 H locs) (hn : As.length = n) (hst : st0 = As.reverse ++ .ref g0 :: rest) (hsz : ls.size = nL) (hrest : (rest.map fun v => v.category).sum ≤ 8) (hdg : decode cc pc = .ok (.invokevirtual idx, 3)) (hf : cells ≤ R.cells ∧ slots ≤ R.slots) (kk : ∀ (H : Heap) (locs : List Loc), va_P (dC, dI) vwCl (mc_W1 g0 pr pm d v1) H → va_D A (mc_W1 g0 pr pm d v1) → va_S A H0 H locs → W p l e R s m args below meth c H locs cells slots Q (F0 m (pc + 3) ls rest)) : W p l e R s m args below meth c H locs cells slots Q (F0 m pc ls st0) := by
  have hFc := va_free (wc := mc_W1 g0 pr pm d v) hD hS hA [0, 1, 2] rfl
  refine va_callv (va_runV (As := As) (rest := rest) S (hM H.size) cw ⟨fun a U g mk q => ⟨q.1, q.2.1, q.2.2.1, va_K.moved (u := U) (U := U.calling g mk a) (Vm.Alike.refl U.vm) q.2.2.2.1, q.2.2.2.2⟩, va_recv hK hP (ci := 1) (q0 := 0) rfl rfl, fun U hU hW => ⟨rfl, by rw [hU], by rw [hU]; exact hP, va_K.moved hW.alike hK, hD.weaken (fun _ _ _ _ => trivial)⟩⟩ rfl hn hsz hst (lv_room hrest) hdg hf) hS (fun q _ h => hFc q h) hFc (fun u1 t H1 locs1 ht hvm hw hB hz1 hk1 hS => ?_)
  obtain ⟨hP1, hK1, hD1⟩ := hB
  rw [ht] at hP1
  have hw : u1 = v1 := hw
  subst hw
  obtain ⟨hP, hD⟩ := va_join (wr := []) (w1 := mc_W1 g0 pr pm d u1) hP hD [0, 1, 2] [] rfl rfl (by decide) (by decide) hk1 hFc hP1 hD1
  exact kk H1 locs1 hP hD hS
end
section
/-! MicroLc3Model.calculate -/
set_option maxHeartbeats 4000000 in
set_option maxRecDepth 100000 in
theorem cal_54 {p : Program} {l : Launch} {e : Env} {R : Room} {s : State} {m : MethodId} {args : Array Value} {below : List Frame} {meth : Method} {c : Code} {Q : State → Prop} {dC : Nat → ClassId} {dI : Nat → Nat → Nat} {A : Nat → Prop} {g0 pr pm : Nat} {d : ClassId} {op ir oth off : Int32} {ls : Array Slot} (hx : p.tables.exec = Jvm.exec) (hb : c.code = cX1_calculate) (hml : c.maxLocals = 7) (hown : s.vm.findClass RX1 = some m.cls) (hts : ∀ w ∈ lw_all, w.before args s = true) (hG : 2 ≤ R.frames ∧ 46 ≤ R.locals) (hA : ∀ q : Nat, s.heap.size ≤ q → A q) (hK : va_K (dC, dI) vwCl [(d, .int)] s) (hl : lv_has ls 7 [(6, .int off), (5, .int oth), (4, .int (s_of ir)), (3, .int (d_of ir)), (0, .ref g0), (1, .int op), (2, .int ir)]) {v : mc_S1} {H : Heap} {locs : List Loc} (hP : va_P (dC, dI) vwCl (mc_W1 g0 pr pm d v) H) (hD : va_D A (mc_W1 g0 pr pm d v)) (hS : va_S A s.heap H locs) (kk : ∀ (H : Heap) (locs : List Loc), va_P (dC, dI) vwCl (mc_W1 g0 pr pm d (ca1 op ir oth v)) H → va_D A (mc_W1 g0 pr pm d (ca1 op ir oth v)) → va_S A s.heap H locs → W p l e R s m args below meth c H locs 0 0 Q (F0 m 74 ls [])) : W p l e R s m args below meth c H locs 0 0 Q (F0 m 54 ls []) := by
  refine lv_iload_n hx hb dX1_calculate_54 rfl (lv_at hl 5 rfl) ?_
  refine lv_iconst (v := 1) hx hb dX1_calculate_55 (by decide) ?_
  refine lv_icmp_ne (tgt := 74) hx hb dX1_calculate_56 (by decide) (fun c_1 => ?_) (fun c_1 => ?_)
  · have ev : ca1 op ir oth v = v := by unfold ca1; rw [if_neg c_1]
    rw [ev] at kk
    exact kk _ _ hP hD hS
  · refine lv_aload_n hx hb dX1_calculate_59 rfl (lv_at hl 4 rfl) ?_
    refine lv_iload_n hx hb dX1_calculate_60 rfl (lv_at hl 3 rfl) ?_
    refine lv_aload_n hx hb dX1_calculate_61 rfl (lv_at hl 4 rfl) ?_
    refine va_get (D := (dC, dI)) (ci := 1) (v := .ref pr) (C := RX1) (T := TX1) (N := 6) hx hb hts in_X1 hown hK hP 0 rfl rfl 0 (by decide) (hts _ q213) (fun _ h9 => h9) rfl dX1_calculate_62 ?_
    refine lv_iload hx hb dX1_calculate_65 (lv_at hl 2 rfl) ?_
    refine va_iald hx hb hK hP 1 0 rfl rfl (in7 _) dX1_calculate_67 ?_
    refine lv_iload hx hb dX1_calculate_68 (lv_at hl 1 rfl) ?_
    refine lv_iadd hx hb dX1_calculate_70 ?_
    refine wc_1 (As := [.int (d_of ir), .int ((t_rr v (s_of ir).toNatClampNeg) + oth)]) (rest := []) ⟨hx, hb, hml, hown, hts⟩ hA (fun sz => met1_give l dC dI g0 pr pm d sz v (d_of ir) ((t_rr v (s_of ir).toNatClampNeg) + oth) (in7 _)) (cwV 2 hts (lw_V q277 q279 qs18 q24 q280) rfl rfl rfl (by decide +kernel) hG) hK hP hD hS rfl rfl hl.1 (Nat.le_of_ble_eq_true rfl) dX1_calculate_71 ⟨Nat.zero_le _, Nat.zero_le _⟩ (fun H locs hP hD hS => ?_)
    have ev : ca1 op ir oth v = giveF (d_of ir) ((t_rr v (s_of ir).toNatClampNeg) + oth) v := by unfold ca1; rw [if_pos c_1]
    rw [ev] at kk
    exact kk _ _ hP hD hS
set_option maxHeartbeats 4000000 in
set_option maxRecDepth 100000 in
theorem cal_74 {p : Program} {l : Launch} {e : Env} {R : Room} {s : State} {m : MethodId} {args : Array Value} {below : List Frame} {meth : Method} {c : Code} {Q : State → Prop} {dC : Nat → ClassId} {dI : Nat → Nat → Nat} {A : Nat → Prop} {g0 pr pm : Nat} {d : ClassId} {op ir oth off : Int32} {ls : Array Slot} (hx : p.tables.exec = Jvm.exec) (hb : c.code = cX1_calculate) (hml : c.maxLocals = 7) (hown : s.vm.findClass RX1 = some m.cls) (hts : ∀ w ∈ lw_all, w.before args s = true) (hG : 2 ≤ R.frames ∧ 46 ≤ R.locals) (hA : ∀ q : Nat, s.heap.size ≤ q → A q) (hK : va_K (dC, dI) vwCl [(d, .int)] s) (hl : lv_has ls 7 [(6, .int off), (5, .int oth), (4, .int (s_of ir)), (3, .int (d_of ir)), (0, .ref g0), (1, .int op), (2, .int ir)]) {v : mc_S1} {H : Heap} {locs : List Loc} (hP : va_P (dC, dI) vwCl (mc_W1 g0 pr pm d v) H) (hD : va_D A (mc_W1 g0 pr pm d v)) (hS : va_S A s.heap H locs) (kk : ∀ (H : Heap) (locs : List Loc), va_P (dC, dI) vwCl (mc_W1 g0 pr pm d (ca2 op ir oth v)) H → va_D A (mc_W1 g0 pr pm d (ca2 op ir oth v)) → va_S A s.heap H locs → W p l e R s m args below meth c H locs 0 0 Q (F0 m 94 ls [])) : W p l e R s m args below meth c H locs 0 0 Q (F0 m 74 ls []) := by
  refine lv_iload_n hx hb dX1_calculate_74 rfl (lv_at hl 5 rfl) ?_
  refine lv_iconst (v := 5) hx hb dX1_calculate_75 (by decide) ?_
  refine lv_icmp_ne (tgt := 94) hx hb dX1_calculate_76 (by decide) (fun c_1 => ?_) (fun c_1 => ?_)
  · have ev : ca2 op ir oth v = v := by unfold ca2; rw [if_neg c_1]
    rw [ev] at kk
    exact kk _ _ hP hD hS
  · refine lv_aload_n hx hb dX1_calculate_79 rfl (lv_at hl 4 rfl) ?_
    refine lv_iload_n hx hb dX1_calculate_80 rfl (lv_at hl 3 rfl) ?_
    refine lv_aload_n hx hb dX1_calculate_81 rfl (lv_at hl 4 rfl) ?_
    refine va_get (D := (dC, dI)) (ci := 1) (v := .ref pr) (C := RX1) (T := TX1) (N := 6) hx hb hts in_X1 hown hK hP 0 rfl rfl 0 (by decide) (hts _ q213) (fun _ h9 => h9) rfl dX1_calculate_82 ?_
    refine lv_iload hx hb dX1_calculate_85 (lv_at hl 2 rfl) ?_
    refine va_iald hx hb hK hP 1 0 rfl rfl (in7 _) dX1_calculate_87 ?_
    refine lv_iload hx hb dX1_calculate_88 (lv_at hl 1 rfl) ?_
    refine lv_iand hx hb dX1_calculate_90 ?_
    refine wc_1 (As := [.int (d_of ir), .int ((t_rr v (s_of ir).toNatClampNeg) &&& oth)]) (rest := []) ⟨hx, hb, hml, hown, hts⟩ hA (fun sz => met1_give l dC dI g0 pr pm d sz v (d_of ir) ((t_rr v (s_of ir).toNatClampNeg) &&& oth) (in7 _)) (cwV 2 hts (lw_V q277 q279 qs18 q24 q280) rfl rfl rfl (by decide +kernel) hG) hK hP hD hS rfl rfl hl.1 (Nat.le_of_ble_eq_true rfl) dX1_calculate_91 ⟨Nat.zero_le _, Nat.zero_le _⟩ (fun H locs hP hD hS => ?_)
    have ev : ca2 op ir oth v = giveF (d_of ir) ((t_rr v (s_of ir).toNatClampNeg) &&& oth) v := by unfold ca2; rw [if_pos c_1]
    rw [ev] at kk
    exact kk _ _ hP hD hS
set_option maxHeartbeats 4000000 in
set_option maxRecDepth 100000 in
theorem cal_94 {p : Program} {l : Launch} {e : Env} {R : Room} {s : State} {m : MethodId} {args : Array Value} {below : List Frame} {meth : Method} {c : Code} {Q : State → Prop} {dC : Nat → ClassId} {dI : Nat → Nat → Nat} {A : Nat → Prop} {g0 pr pm : Nat} {d : ClassId} {op ir oth off : Int32} {ls : Array Slot} (hx : p.tables.exec = Jvm.exec) (hb : c.code = cX1_calculate) (hml : c.maxLocals = 7) (hown : s.vm.findClass RX1 = some m.cls) (hts : ∀ w ∈ lw_all, w.before args s = true) (hG : 2 ≤ R.frames ∧ 46 ≤ R.locals) (hA : ∀ q : Nat, s.heap.size ≤ q → A q) (hK : va_K (dC, dI) vwCl [(d, .int)] s) (hl : lv_has ls 7 [(6, .int off), (5, .int oth), (4, .int (s_of ir)), (3, .int (d_of ir)), (0, .ref g0), (1, .int op), (2, .int ir)]) {v : mc_S1} {H : Heap} {locs : List Loc} (hP : va_P (dC, dI) vwCl (mc_W1 g0 pr pm d v) H) (hD : va_D A (mc_W1 g0 pr pm d v)) (hS : va_S A s.heap H locs) (kk : ∀ (H : Heap) (locs : List Loc), va_P (dC, dI) vwCl (mc_W1 g0 pr pm d (ca3 op ir v)) H → va_D A (mc_W1 g0 pr pm d (ca3 op ir v)) → va_S A s.heap H locs → W p l e R s m args below meth c H locs 0 0 Q (F0 m 115 ls [])) : W p l e R s m args below meth c H locs 0 0 Q (F0 m 94 ls []) := by
  refine lv_iload_n hx hb dX1_calculate_94 rfl (lv_at hl 5 rfl) ?_
  refine lv_bipush (v := 9) hx hb dX1_calculate_95 (by decide) ?_
  refine lv_icmp_ne (tgt := 115) hx hb dX1_calculate_97 (by decide) (fun c_1 => ?_) (fun c_1 => ?_)
  · have ev : ca3 op ir v = v := by unfold ca3; rw [if_neg c_1]
    rw [ev] at kk
    exact kk _ _ hP hD hS
  · refine lv_aload_n hx hb dX1_calculate_100 rfl (lv_at hl 4 rfl) ?_
    refine lv_iload_n hx hb dX1_calculate_101 rfl (lv_at hl 3 rfl) ?_
    refine lv_ldc (v := 65535) hx hb hown (hts _ q240) dX1_calculate_102 ?_
    refine lv_aload_n hx hb dX1_calculate_104 rfl (lv_at hl 4 rfl) ?_
    refine va_get (D := (dC, dI)) (ci := 1) (v := .ref pr) (C := RX1) (T := TX1) (N := 6) hx hb hts in_X1 hown hK hP 0 rfl rfl 0 (by decide) (hts _ q213) (fun _ h9 => h9) rfl dX1_calculate_105 ?_
    refine lv_iload hx hb dX1_calculate_108 (lv_at hl 2 rfl) ?_
    refine va_iald hx hb hK hP 1 0 rfl rfl (in7 _) dX1_calculate_110 ?_
    refine lv_isub hx hb dX1_calculate_111 ?_
    refine wc_1 (As := [.int (d_of ir), .int (65535 - (t_rr v (s_of ir).toNatClampNeg))]) (rest := []) ⟨hx, hb, hml, hown, hts⟩ hA (fun sz => met1_give l dC dI g0 pr pm d sz v (d_of ir) (65535 - (t_rr v (s_of ir).toNatClampNeg)) (in7 _)) (cwV 2 hts (lw_V q277 q279 qs18 q24 q280) rfl rfl rfl (by decide +kernel) hG) hK hP hD hS rfl rfl hl.1 (Nat.le_of_ble_eq_true rfl) dX1_calculate_112 ⟨Nat.zero_le _, Nat.zero_le _⟩ (fun H locs hP hD hS => ?_)
    have ev : ca3 op ir v = giveF (d_of ir) (65535 - (t_rr v (s_of ir).toNatClampNeg)) v := by unfold ca3; rw [if_pos c_1]
    rw [ev] at kk
    exact kk _ _ hP hD hS
set_option maxHeartbeats 4000000 in
set_option maxRecDepth 100000 in
theorem cal_115 {p : Program} {l : Launch} {e : Env} {R : Room} {s : State} {m : MethodId} {args : Array Value} {below : List Frame} {meth : Method} {c : Code} {Q : State → Prop} {dC : Nat → ClassId} {dI : Nat → Nat → Nat} {A : Nat → Prop} {g0 pr pm : Nat} {d : ClassId} {op ir oth off : Int32} {ls : Array Slot} (hx : p.tables.exec = Jvm.exec) (hb : c.code = cX1_calculate) (hml : c.maxLocals = 7) (hown : s.vm.findClass RX1 = some m.cls) (hts : ∀ w ∈ lw_all, w.before args s = true) (hG : 2 ≤ R.frames ∧ 46 ≤ R.locals) (hA : ∀ q : Nat, s.heap.size ≤ q → A q) (hK : va_K (dC, dI) vwCl [(d, .int)] s) (hl : lv_has ls 7 [(6, .int off), (5, .int oth), (4, .int (s_of ir)), (3, .int (d_of ir)), (0, .ref g0), (1, .int op), (2, .int ir)]) {v : mc_S1} {H : Heap} {locs : List Loc} (hP : va_P (dC, dI) vwCl (mc_W1 g0 pr pm d v) H) (hD : va_D A (mc_W1 g0 pr pm d v)) (hS : va_S A s.heap H locs) (kk : ∀ (H : Heap) (locs : List Loc), va_P (dC, dI) vwCl (mc_W1 g0 pr pm d (ca4 op ir off v)) H → va_D A (mc_W1 g0 pr pm d (ca4 op ir off v)) → va_S A s.heap H locs → W p l e R s m args below meth c H locs 0 0 Q (F0 m 133 ls [])) : W p l e R s m args below meth c H locs 0 0 Q (F0 m 115 ls []) := by
  refine lv_iload_n hx hb dX1_calculate_115 rfl (lv_at hl 5 rfl) ?_
  refine lv_bipush (v := 14) hx hb dX1_calculate_116 (by decide) ?_
  refine lv_icmp_ne (tgt := 133) hx hb dX1_calculate_118 (by decide) (fun c_1 => ?_) (fun c_1 => ?_)
  · have ev : ca4 op ir off v = v := by unfold ca4; rw [if_neg c_1]
    rw [ev] at kk
    exact kk _ _ hP hD hS
  · refine lv_aload_n hx hb dX1_calculate_121 rfl (lv_at hl 4 rfl) ?_
    refine lv_iload_n hx hb dX1_calculate_122 rfl (lv_at hl 3 rfl) ?_
    refine lv_aload_n hx hb dX1_calculate_123 rfl (lv_at hl 4 rfl) ?_
    refine va_get (D := (dC, dI)) (ci := 1) (v := .int (t_pc v)) (C := RX1) (T := TX1) (N := 6) hx hb hts in_X1 hown hK hP 0 rfl rfl 2 (by decide) (hts _ q215) (fun _ h9 => h9) rfl dX1_calculate_124 ?_
    refine lv_iload hx hb dX1_calculate_127 (lv_at hl 0 rfl) ?_
    refine lv_iadd hx hb dX1_calculate_129 ?_
    refine wc_1 (As := [.int (d_of ir), .int ((t_pc v) + off)]) (rest := []) ⟨hx, hb, hml, hown, hts⟩ hA (fun sz => met1_give l dC dI g0 pr pm d sz v (d_of ir) ((t_pc v) + off) (in7 _)) (cwV 2 hts (lw_V q277 q279 qs18 q24 q280) rfl rfl rfl (by decide +kernel) hG) hK hP hD hS rfl rfl hl.1 (Nat.le_of_ble_eq_true rfl) dX1_calculate_130 ⟨Nat.zero_le _, Nat.zero_le _⟩ (fun H locs hP hD hS => ?_)
    have ev : ca4 op ir off v = giveF (d_of ir) ((t_pc v) + off) v := by unfold ca4; rw [if_pos c_1]
    rw [ev] at kk
    exact kk _ _ hP hD hS
set_option maxHeartbeats 4000000 in
set_option maxRecDepth 100000 in
theorem met1_calculate (l : Launch) (dC : Nat → ClassId) (dI : Nat → Nat → Nat) (g0 pr pm : Nat) (d : ClassId) (sz : Nat) (v : mc_S1) (op ir : Int32) : Met l yX1_calculate (ws_ yX1_calculate cX1_calculate 7 none) ({ frames := 2, cells := 0, slots := 0, locals := 46 }) (va_Pc [.ref g0, .int op, .int ir] (mc_P1 dC dI g0 pr pm d sz v)) (va_Qv (fun v' : mc_S1 => v' = calF op ir v) (mc_B1 dC dI (va_A (mc_W1 g0 pr pm d v) sz) g0 pr pm d) (va_A (mc_W1 g0 pr pm d v) sz)) 0 0 (va_A (mc_W1 g0 pr pm d v) sz) := by
  refine Met.ofW (cc := cX1_calculate) (maxL := 7) (ret := none) (by decide) rfl ?_
  intro p e s m args below meth c s₁ B hml hv
  obtain ⟨rfl, hsz, hP, hK, hD0⟩ := hv
  have hx := B.exec
  have hb := B.bytes
  have hr := B.returns
  have hts := atoms_spec (ws := (ws_ yX1_calculate cX1_calculate 7 none)) B.pre
  have hts : ∀ w ∈ lw_all, w.before _ s = true := fun w h => hts w (List.mem_cons_of_mem _ h)
  have hown : s.vm.findClass RX1 = some m.cls := findClass_of_methodNamed B.named
  have hlocks := B.notSynchronized
  subst hsz
  have hD := hD0.self (sz := s.heap.size)
  generalize hAe : va_A (mc_W1 g0 pr pm d v) s.heap.size = A at hD ⊢
  have hA : ∀ q : Nat, s.heap.size ≤ q → A q := fun q h => by rw [← hAe]; exact Or.inr h
  have hS : va_S A s.heap s.heap [] := va_S.rf
  have hP : va_P (dC, dI) vwCl (mc_W1 g0 pr pm d v) s.heap := hP
  have hl := lv_entry ([.ref g0, .int op, .int ir]) (n := 7) (Nat.le_of_ble_eq_true rfl)
  rw [lg_entry_eq]
  generalize (lg_sl ([.ref g0, .int op, .int ir]) ++ List.replicate (7 - (lg_sl ([.ref g0, .int op, .int ir])).length) Slot.unset).toArray = ls at hl ⊢
  have hl : lv_has ls 7 [(0, .ref g0), (1, .int op), (2, .int ir)] := hl
  have j43 : ∀ (x : Int32) (ls : Array Slot), lv_has ls 7 [(4, .int (s_of ir)), (3, .int (d_of ir)), (0, .ref g0), (1, .int op), (2, .int ir)] → x = othF ir v → W p l e (headSpec (ws_ yX1_calculate cX1_calculate 7 none) ({ frames := 2, cells := 0, slots := 0, locals := 46 })).room s m ([.ref g0, .int op, .int ir]).toArray below meth c s.heap [] 0 0 (MQ below (va_Qv (fun v' : mc_S1 => v' = calF op ir v) (mc_B1 dC dI A g0 pr pm d) A) ([.ref g0, .int op, .int ir]).toArray s 0 0 A) (F0 m 43 ls [.int x]) := by
    intro x ls hl ev
    subst ev
    refine lv_istore (lv' := [(5, .int (othF ir v)), (4, .int (s_of ir)), (3, .int (d_of ir)), (0, .ref g0), (1, .int op), (2, .int ir)]) hx hb dX1_calculate_43 hl (by decide) rfl (fun ls hl => ?_)
    refine lv_aload_n hx hb dX1_calculate_45 rfl (lv_at hl 3 rfl) ?_
    refine lv_iload_n hx hb dX1_calculate_46 rfl (lv_at hl 5 rfl) ?_
    refine lv_bipush (v := 9) hx hb dX1_calculate_47 (by decide) ?_
    refine rd1_signed (b := 9) (by decide) ⟨hx, hb, hml, hown, hts⟩ hK hP ⟨Nat.le_of_ble_eq_true rfl, Nat.le_of_ble_eq_true rfl⟩ hl.1 (Nat.le_of_ble_eq_true rfl) dX1_calculate_49 ⟨Nat.zero_le _, Nat.zero_le _⟩ ?_
    refine lv_istore (lv' := [(6, .int (sgnF ir 9)), (5, .int (othF ir v)), (4, .int (s_of ir)), (3, .int (d_of ir)), (0, .ref g0), (1, .int op), (2, .int ir)]) hx hb dX1_calculate_52 hl (by decide) rfl (fun ls hl => ?_)
    refine cal_54 hx hb hml hown hts ⟨Nat.le_of_ble_eq_true rfl, Nat.le_of_ble_eq_true rfl⟩ hA hK hl hP hD hS (fun H locs hP hD hS => ?_)
    refine cal_74 hx hb hml hown hts ⟨Nat.le_of_ble_eq_true rfl, Nat.le_of_ble_eq_true rfl⟩ hA hK hl hP hD hS (fun H locs hP hD hS => ?_)
    refine cal_94 hx hb hml hown hts ⟨Nat.le_of_ble_eq_true rfl, Nat.le_of_ble_eq_true rfl⟩ hA hK hl hP hD hS (fun H locs hP hD hS => ?_)
    refine cal_115 hx hb hml hown hts ⟨Nat.le_of_ble_eq_true rfl, Nat.le_of_ble_eq_true rfl⟩ hA hK hl hP hD hS (fun H locs hP hD hS => ?_)
    exact W.vret hx hb hr (fun t ht hW => ⟨⟨(calF op ir v), rfl, rfl, by rw [ht]; exact hP, va_K.moved hW.alike hK, hD⟩, hS.F ht⟩) hS.2.2 dX1_calculate_133
  refine lv_iload_n hx hb dX1_calculate_0 rfl (lv_at hl 2 rfl) ?_
  refine lv_bipush (v := 9) hx hb dX1_calculate_1 (by decide) ?_
  refine lv_ishr hx hb dX1_calculate_3 ?_
  refine lv_bipush (v := 7) hx hb dX1_calculate_4 (by decide) ?_
  refine lv_iand hx hb dX1_calculate_6 ?_
  refine lv_istore_n (lv' := [(3, .int ((ir >>> ((9 : Int32) &&& 31)) &&& 7)), (0, .ref g0), (1, .int op), (2, .int ir)]) hx hb dX1_calculate_7 rfl hl (by decide) rfl (fun ls hl => ?_)
  refine lv_iload_n hx hb dX1_calculate_8 rfl (lv_at hl 3 rfl) ?_
  refine lv_bipush (v := 6) hx hb dX1_calculate_9 (by decide) ?_
  refine lv_ishr hx hb dX1_calculate_11 ?_
  refine lv_bipush (v := 7) hx hb dX1_calculate_12 (by decide) ?_
  refine lv_iand hx hb dX1_calculate_14 ?_
  refine lv_istore (lv' := [(4, .int ((ir >>> ((6 : Int32) &&& 31)) &&& 7)), (3, .int ((ir >>> ((9 : Int32) &&& 31)) &&& 7)), (0, .ref g0), (1, .int op), (2, .int ir)]) hx hb dX1_calculate_15 hl (by decide) rfl (fun ls hl => ?_)
  refine lv_iload_n hx hb dX1_calculate_17 rfl (lv_at hl 4 rfl) ?_
  refine lv_iconst (v := 5) hx hb dX1_calculate_18 (by decide) ?_
  refine lv_ishr hx hb dX1_calculate_19 ?_
  refine lv_iconst (v := 1) hx hb dX1_calculate_20 (by decide) ?_
  refine lv_iand hx hb dX1_calculate_21 ?_
  refine lv_if_ne (tgt := 37) hx hb dX1_calculate_22 (by decide) (fun c_1 => ?_) (fun c_1 => ?_)
  · refine lv_aload_n hx hb dX1_calculate_37 rfl (lv_at hl 2 rfl) ?_
    refine lv_iload_n hx hb dX1_calculate_38 rfl (lv_at hl 4 rfl) ?_
    refine lv_iconst (v := 5) hx hb dX1_calculate_39 (by decide) ?_
    refine rd1_signed (b := 5) (by decide) ⟨hx, hb, hml, hown, hts⟩ hK hP ⟨Nat.le_of_ble_eq_true rfl, Nat.le_of_ble_eq_true rfl⟩ hl.1 (Nat.le_of_ble_eq_true rfl) dX1_calculate_40 ⟨Nat.zero_le _, Nat.zero_le _⟩ ?_
    exact j43 _ ls hl (by unfold othF; rw [if_neg c_1])
  · refine lv_aload_n hx hb dX1_calculate_25 rfl (lv_at hl 2 rfl) ?_
    refine va_get (D := (dC, dI)) (ci := 1) (v := .ref pr) (C := RX1) (T := TX1) (N := 6) hx hb hts in_X1 hown hK hP 0 rfl rfl 0 (by decide) (hts _ q213) (fun _ h9 => h9) rfl dX1_calculate_26 ?_
    refine lv_iload_n hx hb dX1_calculate_29 rfl (lv_at hl 4 rfl) ?_
    refine lv_bipush (v := 7) hx hb dX1_calculate_30 (by decide) ?_
    refine lv_iand hx hb dX1_calculate_32 ?_
    refine va_iald hx hb hK hP 1 0 rfl rfl (in7 _) dX1_calculate_33 ?_
    refine lv_goto (tgt := 43) hx hb dX1_calculate_34 (by decide) ?_
    exact j43 _ ls hl (by unfold othF; rw [if_pos c_1])
end
section
/-! MicroLc3Model.move -/
set_option maxHeartbeats 4000000 in
set_option maxRecDepth 100000 in
theorem mov_62 {p : Program} {l : Launch} {e : Env} {R : Room} {s : State} {m : MethodId} {args : Array Value} {below : List Frame} {meth : Method} {c : Code} {Q : State → Prop} {dC : Nat → ClassId} {dI : Nat → Nat → Nat} {A : Nat → Prop} {g0 pr pm : Nat} {d : ClassId} {op ir nea bas far : Int32} {ls : Array Slot} (h4 : vp_in nea 64) (h5 : vp_in bas 64) (h6 : vp_in far 64) (hx : p.tables.exec = Jvm.exec) (hb : c.code = cX1_move) (hml : c.maxLocals = 7) (hown : s.vm.findClass RX1 = some m.cls) (hts : ∀ w ∈ lw_all, w.before args s = true) (hG : 2 ≤ R.frames ∧ 46 ≤ R.locals) (hA : ∀ q : Nat, s.heap.size ≤ q → A q) (hK : va_K (dC, dI) vwCl [(d, .int)] s) (hl : lv_has ls 7 [(6, .int far), (5, .int bas), (4, .int nea), (3, .int (d_of ir)), (0, .ref g0), (1, .int op), (2, .int ir)]) {v : mc_S1} {H : Heap} {locs : List Loc} (hP : va_P (dC, dI) vwCl (mc_W1 g0 pr pm d v) H) (hD : va_D A (mc_W1 g0 pr pm d v)) (hS : va_S A s.heap H locs) (kk : ∀ (H : Heap) (locs : List Loc), va_P (dC, dI) vwCl (mc_W1 g0 pr pm d (mo1 op ir nea v)) H → va_D A (mc_W1 g0 pr pm d (mo1 op ir nea v)) → va_S A s.heap H locs → W p l e R s m args below meth c H locs 0 0 Q (F0 m 79 ls [])) : W p l e R s m args below meth c H locs 0 0 Q (F0 m 62 ls []) := by
  refine lv_iload_n hx hb dX1_move_62 rfl (lv_at hl 5 rfl) ?_
  refine lv_iconst (v := 2) hx hb dX1_move_63 (by decide) ?_
  refine lv_icmp_ne (tgt := 79) hx hb dX1_move_64 (by decide) (fun c_1 => ?_) (fun c_1 => ?_)
  · have ev : mo1 op ir nea v = v := by unfold mo1; rw [if_neg c_1]
    rw [ev] at kk
    exact kk _ _ hP hD hS
  · refine lv_aload_n hx hb dX1_move_67 rfl (lv_at hl 4 rfl) ?_
    refine lv_iload_n hx hb dX1_move_68 rfl (lv_at hl 3 rfl) ?_
    refine lv_aload_n hx hb dX1_move_69 rfl (lv_at hl 4 rfl) ?_
    refine va_get (D := (dC, dI)) (ci := 1) (v := .ref pm) (C := RX1) (T := TX1) (N := 6) hx hb hts in_X1 hown hK hP 0 rfl rfl 1 (by decide) (hts _ q214) (fun _ h9 => h9) rfl dX1_move_70 ?_
    refine lv_iload hx hb dX1_move_73 (lv_at hl 2 rfl) ?_
    refine va_iald hx hb hK hP 2 0 rfl rfl h4 dX1_move_75 ?_
    refine wc_1 (As := [.int (d_of ir), .int (t_mm v nea.toNatClampNeg)]) (rest := []) ⟨hx, hb, hml, hown, hts⟩ hA (fun sz => met1_give l dC dI g0 pr pm d sz v (d_of ir) (t_mm v nea.toNatClampNeg) (in7 _)) (cwV 2 hts (lw_V q277 q279 qs18 q24 q280) rfl rfl rfl (by decide +kernel) hG) hK hP hD hS rfl rfl hl.1 (Nat.le_of_ble_eq_true rfl) dX1_move_76 ⟨Nat.zero_le _, Nat.zero_le _⟩ (fun H locs hP hD hS => ?_)
    have ev : mo1 op ir nea v = giveF (d_of ir) (t_mm v nea.toNatClampNeg) v := by unfold mo1; rw [if_pos c_1]
    rw [ev] at kk
    exact kk _ _ hP hD hS
set_option maxHeartbeats 4000000 in
set_option maxRecDepth 100000 in
theorem mov_79 {p : Program} {l : Launch} {e : Env} {R : Room} {s : State} {m : MethodId} {args : Array Value} {below : List Frame} {meth : Method} {c : Code} {Q : State → Prop} {dC : Nat → ClassId} {dI : Nat → Nat → Nat} {A : Nat → Prop} {g0 pr pm : Nat} {d : ClassId} {op ir nea bas far : Int32} {ls : Array Slot} (h4 : vp_in nea 64) (h5 : vp_in bas 64) (h6 : vp_in far 64) (hx : p.tables.exec = Jvm.exec) (hb : c.code = cX1_move) (hml : c.maxLocals = 7) (hown : s.vm.findClass RX1 = some m.cls) (hts : ∀ w ∈ lw_all, w.before args s = true) (hG : 2 ≤ R.frames ∧ 46 ≤ R.locals) (hA : ∀ q : Nat, s.heap.size ≤ q → A q) (hK : va_K (dC, dI) vwCl [(d, .int)] s) (hl : lv_has ls 7 [(6, .int far), (5, .int bas), (4, .int nea), (3, .int (d_of ir)), (0, .ref g0), (1, .int op), (2, .int ir)]) {v : mc_S1} {H : Heap} {locs : List Loc} (hP : va_P (dC, dI) vwCl (mc_W1 g0 pr pm d v) H) (hD : va_D A (mc_W1 g0 pr pm d v)) (hS : va_S A s.heap H locs) (kk : ∀ (H : Heap) (locs : List Loc), va_P (dC, dI) vwCl (mc_W1 g0 pr pm d (mo2 op ir bas v)) H → va_D A (mc_W1 g0 pr pm d (mo2 op ir bas v)) → va_S A s.heap H locs → W p l e R s m args below meth c H locs 0 0 Q (F0 m 97 ls [])) : W p l e R s m args below meth c H locs 0 0 Q (F0 m 79 ls []) := by
  refine lv_iload_n hx hb dX1_move_79 rfl (lv_at hl 5 rfl) ?_
  refine lv_bipush (v := 6) hx hb dX1_move_80 (by decide) ?_
  refine lv_icmp_ne (tgt := 97) hx hb dX1_move_82 (by decide) (fun c_1 => ?_) (fun c_1 => ?_)
  · have ev : mo2 op ir bas v = v := by unfold mo2; rw [if_neg c_1]
    rw [ev] at kk
    exact kk _ _ hP hD hS
  · refine lv_aload_n hx hb dX1_move_85 rfl (lv_at hl 4 rfl) ?_
    refine lv_iload_n hx hb dX1_move_86 rfl (lv_at hl 3 rfl) ?_
    refine lv_aload_n hx hb dX1_move_87 rfl (lv_at hl 4 rfl) ?_
    refine va_get (D := (dC, dI)) (ci := 1) (v := .ref pm) (C := RX1) (T := TX1) (N := 6) hx hb hts in_X1 hown hK hP 0 rfl rfl 1 (by decide) (hts _ q214) (fun _ h9 => h9) rfl dX1_move_88 ?_
    refine lv_iload hx hb dX1_move_91 (lv_at hl 1 rfl) ?_
    refine va_iald hx hb hK hP 2 0 rfl rfl h5 dX1_move_93 ?_
    refine wc_1 (As := [.int (d_of ir), .int (t_mm v bas.toNatClampNeg)]) (rest := []) ⟨hx, hb, hml, hown, hts⟩ hA (fun sz => met1_give l dC dI g0 pr pm d sz v (d_of ir) (t_mm v bas.toNatClampNeg) (in7 _)) (cwV 2 hts (lw_V q277 q279 qs18 q24 q280) rfl rfl rfl (by decide +kernel) hG) hK hP hD hS rfl rfl hl.1 (Nat.le_of_ble_eq_true rfl) dX1_move_94 ⟨Nat.zero_le _, Nat.zero_le _⟩ (fun H locs hP hD hS => ?_)
    have ev : mo2 op ir bas v = giveF (d_of ir) (t_mm v bas.toNatClampNeg) v := by unfold mo2; rw [if_pos c_1]
    rw [ev] at kk
    exact kk _ _ hP hD hS
set_option maxHeartbeats 4000000 in
set_option maxRecDepth 100000 in
theorem mov_97 {p : Program} {l : Launch} {e : Env} {R : Room} {s : State} {m : MethodId} {args : Array Value} {below : List Frame} {meth : Method} {c : Code} {Q : State → Prop} {dC : Nat → ClassId} {dI : Nat → Nat → Nat} {A : Nat → Prop} {g0 pr pm : Nat} {d : ClassId} {op ir nea bas far : Int32} {ls : Array Slot} (h4 : vp_in nea 64) (h5 : vp_in bas 64) (h6 : vp_in far 64) (hx : p.tables.exec = Jvm.exec) (hb : c.code = cX1_move) (hml : c.maxLocals = 7) (hown : s.vm.findClass RX1 = some m.cls) (hts : ∀ w ∈ lw_all, w.before args s = true) (hG : 2 ≤ R.frames ∧ 46 ≤ R.locals) (hA : ∀ q : Nat, s.heap.size ≤ q → A q) (hK : va_K (dC, dI) vwCl [(d, .int)] s) (hl : lv_has ls 7 [(6, .int far), (5, .int bas), (4, .int nea), (3, .int (d_of ir)), (0, .ref g0), (1, .int op), (2, .int ir)]) {v : mc_S1} {H : Heap} {locs : List Loc} (hP : va_P (dC, dI) vwCl (mc_W1 g0 pr pm d v) H) (hD : va_D A (mc_W1 g0 pr pm d v)) (hS : va_S A s.heap H locs) (kk : ∀ (H : Heap) (locs : List Loc), va_P (dC, dI) vwCl (mc_W1 g0 pr pm d (mo3 op ir far v)) H → va_D A (mc_W1 g0 pr pm d (mo3 op ir far v)) → va_S A s.heap H locs → W p l e R s m args below meth c H locs 0 0 Q (F0 m 115 ls [])) : W p l e R s m args below meth c H locs 0 0 Q (F0 m 97 ls []) := by
  refine lv_iload_n hx hb dX1_move_97 rfl (lv_at hl 5 rfl) ?_
  refine lv_bipush (v := 10) hx hb dX1_move_98 (by decide) ?_
  refine lv_icmp_ne (tgt := 115) hx hb dX1_move_100 (by decide) (fun c_1 => ?_) (fun c_1 => ?_)
  · have ev : mo3 op ir far v = v := by unfold mo3; rw [if_neg c_1]
    rw [ev] at kk
    exact kk _ _ hP hD hS
  · refine lv_aload_n hx hb dX1_move_103 rfl (lv_at hl 4 rfl) ?_
    refine lv_iload_n hx hb dX1_move_104 rfl (lv_at hl 3 rfl) ?_
    refine lv_aload_n hx hb dX1_move_105 rfl (lv_at hl 4 rfl) ?_
    refine va_get (D := (dC, dI)) (ci := 1) (v := .ref pm) (C := RX1) (T := TX1) (N := 6) hx hb hts in_X1 hown hK hP 0 rfl rfl 1 (by decide) (hts _ q214) (fun _ h9 => h9) rfl dX1_move_106 ?_
    refine lv_iload hx hb dX1_move_109 (lv_at hl 0 rfl) ?_
    refine va_iald hx hb hK hP 2 0 rfl rfl h6 dX1_move_111 ?_
    refine wc_1 (As := [.int (d_of ir), .int (t_mm v far.toNatClampNeg)]) (rest := []) ⟨hx, hb, hml, hown, hts⟩ hA (fun sz => met1_give l dC dI g0 pr pm d sz v (d_of ir) (t_mm v far.toNatClampNeg) (in7 _)) (cwV 2 hts (lw_V q277 q279 qs18 q24 q280) rfl rfl rfl (by decide +kernel) hG) hK hP hD hS rfl rfl hl.1 (Nat.le_of_ble_eq_true rfl) dX1_move_112 ⟨Nat.zero_le _, Nat.zero_le _⟩ (fun H locs hP hD hS => ?_)
    have ev : mo3 op ir far v = giveF (d_of ir) (t_mm v far.toNatClampNeg) v := by unfold mo3; rw [if_pos c_1]
    rw [ev] at kk
    exact kk _ _ hP hD hS
set_option maxHeartbeats 4000000 in
set_option maxRecDepth 100000 in
theorem mov_115 {p : Program} {l : Launch} {e : Env} {R : Room} {s : State} {m : MethodId} {args : Array Value} {below : List Frame} {meth : Method} {c : Code} {Q : State → Prop} {dC : Nat → ClassId} {dI : Nat → Nat → Nat} {A : Nat → Prop} {g0 pr pm : Nat} {d : ClassId} {op ir nea bas far : Int32} {ls : Array Slot} (h4 : vp_in nea 64) (h5 : vp_in bas 64) (h6 : vp_in far 64) (hx : p.tables.exec = Jvm.exec) (hb : c.code = cX1_move) (hml : c.maxLocals = 7) (hown : s.vm.findClass RX1 = some m.cls) (hts : ∀ w ∈ lw_all, w.before args s = true) (hG : 2 ≤ R.frames ∧ 46 ≤ R.locals) (hA : ∀ q : Nat, s.heap.size ≤ q → A q) (hK : va_K (dC, dI) vwCl [(d, .int)] s) (hl : lv_has ls 7 [(6, .int far), (5, .int bas), (4, .int nea), (3, .int (d_of ir)), (0, .ref g0), (1, .int op), (2, .int ir)]) {v : mc_S1} {H : Heap} {locs : List Loc} (hP : va_P (dC, dI) vwCl (mc_W1 g0 pr pm d v) H) (hD : va_D A (mc_W1 g0 pr pm d v)) (hS : va_S A s.heap H locs) (kk : ∀ (H : Heap) (locs : List Loc), va_P (dC, dI) vwCl (mc_W1 g0 pr pm d (mo4 op ir nea v)) H → va_D A (mc_W1 g0 pr pm d (mo4 op ir nea v)) → va_S A s.heap H locs → W p l e R s m args below meth c H locs 0 0 Q (F0 m 133 ls [])) : W p l e R s m args below meth c H locs 0 0 Q (F0 m 115 ls []) := by
  refine lv_iload_n hx hb dX1_move_115 rfl (lv_at hl 5 rfl) ?_
  refine lv_iconst (v := 3) hx hb dX1_move_116 (by decide) ?_
  refine lv_icmp_ne (tgt := 133) hx hb dX1_move_117 (by decide) (fun c_1 => ?_) (fun c_1 => ?_)
  · have ev : mo4 op ir nea v = v := by unfold mo4; rw [if_neg c_1]
    rw [ev] at kk
    exact kk _ _ hP hD hS
  · refine lv_aload_n hx hb dX1_move_120 rfl (lv_at hl 4 rfl) ?_
    refine va_get (D := (dC, dI)) (ci := 1) (v := .ref pm) (C := RX1) (T := TX1) (N := 6) hx hb hts in_X1 hown hK hP 0 rfl rfl 1 (by decide) (hts _ q214) (fun _ h9 => h9) rfl dX1_move_121 ?_
    refine lv_iload hx hb dX1_move_124 (lv_at hl 2 rfl) ?_
    refine lv_aload_n hx hb dX1_move_126 rfl (lv_at hl 4 rfl) ?_
    refine va_get (D := (dC, dI)) (ci := 1) (v := .ref pr) (C := RX1) (T := TX1) (N := 6) hx hb hts in_X1 hown hK hP 0 rfl rfl 0 (by decide) (hts _ q213) (fun _ h9 => h9) rfl dX1_move_127 ?_
    refine lv_iload_n hx hb dX1_move_130 rfl (lv_at hl 3 rfl) ?_
    refine va_iald hx hb hK hP 1 0 rfl rfl (in7 _) dX1_move_131 ?_
    refine va_iast hx hb hK hP hD hS 2 0 rfl rfl h4 dX1_move_132 (fun H locs hP hD hS => ?_)
    have hP : va_P (dC, dI) vwCl (mc_W1 g0 pr pm d (putt_mm v (upd (t_mm v) nea.toNatClampNeg (t_rr v (d_of ir).toNatClampNeg)))) H := hP
    have hD : va_D A (mc_W1 g0 pr pm d (putt_mm v (upd (t_mm v) nea.toNatClampNeg (t_rr v (d_of ir).toNatClampNeg)))) := hD
    have ev : mo4 op ir nea v = putt_mm v (upd (t_mm v) nea.toNatClampNeg (t_rr v (d_of ir).toNatClampNeg)) := by unfold mo4; rw [if_pos c_1]
    rw [ev] at kk
    exact kk _ _ hP hD hS
set_option maxHeartbeats 4000000 in
set_option maxRecDepth 100000 in
theorem mov_133 {p : Program} {l : Launch} {e : Env} {R : Room} {s : State} {m : MethodId} {args : Array Value} {below : List Frame} {meth : Method} {c : Code} {Q : State → Prop} {dC : Nat → ClassId} {dI : Nat → Nat → Nat} {A : Nat → Prop} {g0 pr pm : Nat} {d : ClassId} {op ir nea bas far : Int32} {ls : Array Slot} (h4 : vp_in nea 64) (h5 : vp_in bas 64) (h6 : vp_in far 64) (hx : p.tables.exec = Jvm.exec) (hb : c.code = cX1_move) (hml : c.maxLocals = 7) (hown : s.vm.findClass RX1 = some m.cls) (hts : ∀ w ∈ lw_all, w.before args s = true) (hG : 2 ≤ R.frames ∧ 46 ≤ R.locals) (hA : ∀ q : Nat, s.heap.size ≤ q → A q) (hK : va_K (dC, dI) vwCl [(d, .int)] s) (hl : lv_has ls 7 [(6, .int far), (5, .int bas), (4, .int nea), (3, .int (d_of ir)), (0, .ref g0), (1, .int op), (2, .int ir)]) {v : mc_S1} {H : Heap} {locs : List Loc} (hP : va_P (dC, dI) vwCl (mc_W1 g0 pr pm d v) H) (hD : va_D A (mc_W1 g0 pr pm d v)) (hS : va_S A s.heap H locs) (kk : ∀ (H : Heap) (locs : List Loc), va_P (dC, dI) vwCl (mc_W1 g0 pr pm d (mo5 op ir bas v)) H → va_D A (mc_W1 g0 pr pm d (mo5 op ir bas v)) → va_S A s.heap H locs → W p l e R s m args below meth c H locs 0 0 Q (F0 m 152 ls [])) : W p l e R s m args below meth c H locs 0 0 Q (F0 m 133 ls []) := by
  refine lv_iload_n hx hb dX1_move_133 rfl (lv_at hl 5 rfl) ?_
  refine lv_bipush (v := 7) hx hb dX1_move_134 (by decide) ?_
  refine lv_icmp_ne (tgt := 152) hx hb dX1_move_136 (by decide) (fun c_1 => ?_) (fun c_1 => ?_)
  · have ev : mo5 op ir bas v = v := by unfold mo5; rw [if_neg c_1]
    rw [ev] at kk
    exact kk _ _ hP hD hS
  · refine lv_aload_n hx hb dX1_move_139 rfl (lv_at hl 4 rfl) ?_
    refine va_get (D := (dC, dI)) (ci := 1) (v := .ref pm) (C := RX1) (T := TX1) (N := 6) hx hb hts in_X1 hown hK hP 0 rfl rfl 1 (by decide) (hts _ q214) (fun _ h9 => h9) rfl dX1_move_140 ?_
    refine lv_iload hx hb dX1_move_143 (lv_at hl 1 rfl) ?_
    refine lv_aload_n hx hb dX1_move_145 rfl (lv_at hl 4 rfl) ?_
    refine va_get (D := (dC, dI)) (ci := 1) (v := .ref pr) (C := RX1) (T := TX1) (N := 6) hx hb hts in_X1 hown hK hP 0 rfl rfl 0 (by decide) (hts _ q213) (fun _ h9 => h9) rfl dX1_move_146 ?_
    refine lv_iload_n hx hb dX1_move_149 rfl (lv_at hl 3 rfl) ?_
    refine va_iald hx hb hK hP 1 0 rfl rfl (in7 _) dX1_move_150 ?_
    refine va_iast hx hb hK hP hD hS 2 0 rfl rfl h5 dX1_move_151 (fun H locs hP hD hS => ?_)
    have hP : va_P (dC, dI) vwCl (mc_W1 g0 pr pm d (putt_mm v (upd (t_mm v) bas.toNatClampNeg (t_rr v (d_of ir).toNatClampNeg)))) H := hP
    have hD : va_D A (mc_W1 g0 pr pm d (putt_mm v (upd (t_mm v) bas.toNatClampNeg (t_rr v (d_of ir).toNatClampNeg)))) := hD
    have ev : mo5 op ir bas v = putt_mm v (upd (t_mm v) bas.toNatClampNeg (t_rr v (d_of ir).toNatClampNeg)) := by unfold mo5; rw [if_pos c_1]
    rw [ev] at kk
    exact kk _ _ hP hD hS
set_option maxHeartbeats 4000000 in
set_option maxRecDepth 100000 in
theorem mov_152 {p : Program} {l : Launch} {e : Env} {R : Room} {s : State} {m : MethodId} {args : Array Value} {below : List Frame} {meth : Method} {c : Code} {Q : State → Prop} {dC : Nat → ClassId} {dI : Nat → Nat → Nat} {A : Nat → Prop} {g0 pr pm : Nat} {d : ClassId} {op ir nea bas far : Int32} {ls : Array Slot} (h4 : vp_in nea 64) (h5 : vp_in bas 64) (h6 : vp_in far 64) (hx : p.tables.exec = Jvm.exec) (hb : c.code = cX1_move) (hml : c.maxLocals = 7) (hown : s.vm.findClass RX1 = some m.cls) (hts : ∀ w ∈ lw_all, w.before args s = true) (hG : 2 ≤ R.frames ∧ 46 ≤ R.locals) (hA : ∀ q : Nat, s.heap.size ≤ q → A q) (hK : va_K (dC, dI) vwCl [(d, .int)] s) (hl : lv_has ls 7 [(6, .int far), (5, .int bas), (4, .int nea), (3, .int (d_of ir)), (0, .ref g0), (1, .int op), (2, .int ir)]) {v : mc_S1} {H : Heap} {locs : List Loc} (hP : va_P (dC, dI) vwCl (mc_W1 g0 pr pm d v) H) (hD : va_D A (mc_W1 g0 pr pm d v)) (hS : va_S A s.heap H locs) (kk : ∀ (H : Heap) (locs : List Loc), va_P (dC, dI) vwCl (mc_W1 g0 pr pm d (mo6 op ir far v)) H → va_D A (mc_W1 g0 pr pm d (mo6 op ir far v)) → va_S A s.heap H locs → W p l e R s m args below meth c H locs 0 0 Q (F0 m 171 ls [])) : W p l e R s m args below meth c H locs 0 0 Q (F0 m 152 ls []) := by
  refine lv_iload_n hx hb dX1_move_152 rfl (lv_at hl 5 rfl) ?_
  refine lv_bipush (v := 11) hx hb dX1_move_153 (by decide) ?_
  refine lv_icmp_ne (tgt := 171) hx hb dX1_move_155 (by decide) (fun c_1 => ?_) (fun c_1 => ?_)
  · have ev : mo6 op ir far v = v := by unfold mo6; rw [if_neg c_1]
    rw [ev] at kk
    exact kk _ _ hP hD hS
  · refine lv_aload_n hx hb dX1_move_158 rfl (lv_at hl 4 rfl) ?_
    refine va_get (D := (dC, dI)) (ci := 1) (v := .ref pm) (C := RX1) (T := TX1) (N := 6) hx hb hts in_X1 hown hK hP 0 rfl rfl 1 (by decide) (hts _ q214) (fun _ h9 => h9) rfl dX1_move_159 ?_
    refine lv_iload hx hb dX1_move_162 (lv_at hl 0 rfl) ?_
    refine lv_aload_n hx hb dX1_move_164 rfl (lv_at hl 4 rfl) ?_
    refine va_get (D := (dC, dI)) (ci := 1) (v := .ref pr) (C := RX1) (T := TX1) (N := 6) hx hb hts in_X1 hown hK hP 0 rfl rfl 0 (by decide) (hts _ q213) (fun _ h9 => h9) rfl dX1_move_165 ?_
    refine lv_iload_n hx hb dX1_move_168 rfl (lv_at hl 3 rfl) ?_
    refine va_iald hx hb hK hP 1 0 rfl rfl (in7 _) dX1_move_169 ?_
    refine va_iast hx hb hK hP hD hS 2 0 rfl rfl h6 dX1_move_170 (fun H locs hP hD hS => ?_)
    have hP : va_P (dC, dI) vwCl (mc_W1 g0 pr pm d (putt_mm v (upd (t_mm v) far.toNatClampNeg (t_rr v (d_of ir).toNatClampNeg)))) H := hP
    have hD : va_D A (mc_W1 g0 pr pm d (putt_mm v (upd (t_mm v) far.toNatClampNeg (t_rr v (d_of ir).toNatClampNeg)))) := hD
    have ev : mo6 op ir far v = putt_mm v (upd (t_mm v) far.toNatClampNeg (t_rr v (d_of ir).toNatClampNeg)) := by unfold mo6; rw [if_pos c_1]
    rw [ev] at kk
    exact kk _ _ hP hD hS
set_option maxHeartbeats 4000000 in
set_option maxRecDepth 100000 in
theorem met1_move (l : Launch) (dC : Nat → ClassId) (dI : Nat → Nat → Nat) (g0 pr pm : Nat) (d : ClassId) (sz : Nat) (v : mc_S1) (op ir : Int32) : Met l yX1_move (ws_ yX1_move cX1_move 7 none) ({ frames := 2, cells := 0, slots := 0, locals := 46 }) (va_Pc [.ref g0, .int op, .int ir] (mc_P1 dC dI g0 pr pm d sz v)) (va_Qv (fun v' : mc_S1 => v' = movF op ir v) (mc_B1 dC dI (va_A (mc_W1 g0 pr pm d v) sz) g0 pr pm d) (va_A (mc_W1 g0 pr pm d v) sz)) 0 0 (va_A (mc_W1 g0 pr pm d v) sz) := by
  refine Met.ofW (cc := cX1_move) (maxL := 7) (ret := none) (by decide) rfl ?_
  intro p e s m args below meth c s₁ B hml hv
  obtain ⟨rfl, hsz, hP, hK, hD0⟩ := hv
  have hx := B.exec
  have hb := B.bytes
  have hr := B.returns
  have hts := atoms_spec (ws := (ws_ yX1_move cX1_move 7 none)) B.pre
  have hts : ∀ w ∈ lw_all, w.before _ s = true := fun w h => hts w (List.mem_cons_of_mem _ h)
  have hown : s.vm.findClass RX1 = some m.cls := findClass_of_methodNamed B.named
  have hlocks := B.notSynchronized
  subst hsz
  have hD := hD0.self (sz := s.heap.size)
  generalize hAe : va_A (mc_W1 g0 pr pm d v) s.heap.size = A at hD ⊢
  have hA : ∀ q : Nat, s.heap.size ≤ q → A q := fun q h => by rw [← hAe]; exact Or.inr h
  have hS : va_S A s.heap s.heap [] := va_S.rf
  have hP : va_P (dC, dI) vwCl (mc_W1 g0 pr pm d v) s.heap := hP
  have hl := lv_entry ([.ref g0, .int op, .int ir]) (n := 7) (Nat.le_of_ble_eq_true rfl)
  rw [lg_entry_eq]
  generalize (lg_sl ([.ref g0, .int op, .int ir]) ++ List.replicate (7 - (lg_sl ([.ref g0, .int op, .int ir])).length) Slot.unset).toArray = ls at hl ⊢
  have hl : lv_has ls 7 [(0, .ref g0), (1, .int op), (2, .int ir)] := hl
  refine lv_iload_n hx hb dX1_move_0 rfl (lv_at hl 2 rfl) ?_
  refine lv_bipush (v := 9) hx hb dX1_move_1 (by decide) ?_
  refine lv_ishr hx hb dX1_move_3 ?_
  refine lv_bipush (v := 7) hx hb dX1_move_4 (by decide) ?_
  refine lv_iand hx hb dX1_move_6 ?_
  refine lv_istore_n (lv' := [(3, .int ((ir >>> ((9 : Int32) &&& 31)) &&& 7)), (0, .ref g0), (1, .int op), (2, .int ir)]) hx hb dX1_move_7 rfl hl (by decide) rfl (fun ls hl => ?_)
  refine lv_aload_n hx hb dX1_move_8 rfl (lv_at hl 1 rfl) ?_
  refine va_get (D := (dC, dI)) (ci := 1) (v := .int (t_pc v)) (C := RX1) (T := TX1) (N := 6) hx hb hts in_X1 hown hK hP 0 rfl rfl 2 (by decide) (hts _ q215) (fun _ h9 => h9) rfl dX1_move_9 ?_
  refine lv_aload_n hx hb dX1_move_12 rfl (lv_at hl 1 rfl) ?_
  refine lv_iload_n hx hb dX1_move_13 rfl (lv_at hl 3 rfl) ?_
  refine lv_bipush (v := 9) hx hb dX1_move_14 (by decide) ?_
  refine rd1_signed (b := 9) (by decide) ⟨hx, hb, hml, hown, hts⟩ hK hP ⟨Nat.le_of_ble_eq_true rfl, Nat.le_of_ble_eq_true rfl⟩ hl.1 (Nat.le_of_ble_eq_true rfl) dX1_move_16 ⟨Nat.zero_le _, Nat.zero_le _⟩ ?_
  refine lv_iadd hx hb dX1_move_19 ?_
  refine lv_bipush (v := 63) hx hb dX1_move_20 (by decide) ?_
  refine lv_iand hx hb dX1_move_22 ?_
  refine lv_istore (lv' := [(4, .int (((t_pc v) + (sgnF ir 9)) &&& 63)), (3, .int ((ir >>> ((9 : Int32) &&& 31)) &&& 7)), (0, .ref g0), (1, .int op), (2, .int ir)]) hx hb dX1_move_23 hl (by decide) rfl (fun ls hl => ?_)
  refine lv_aload_n hx hb dX1_move_25 rfl (lv_at hl 2 rfl) ?_
  refine va_get (D := (dC, dI)) (ci := 1) (v := .ref pr) (C := RX1) (T := TX1) (N := 6) hx hb hts in_X1 hown hK hP 0 rfl rfl 0 (by decide) (hts _ q213) (fun _ h9 => h9) rfl dX1_move_26 ?_
  refine lv_iload_n hx hb dX1_move_29 rfl (lv_at hl 4 rfl) ?_
  refine lv_bipush (v := 6) hx hb dX1_move_30 (by decide) ?_
  refine lv_ishr hx hb dX1_move_32 ?_
  refine lv_bipush (v := 7) hx hb dX1_move_33 (by decide) ?_
  refine lv_iand hx hb dX1_move_35 ?_
  refine va_iald hx hb hK hP 1 0 rfl rfl (in7 _) dX1_move_36 ?_
  refine lv_aload_n hx hb dX1_move_37 rfl (lv_at hl 2 rfl) ?_
  refine lv_iload_n hx hb dX1_move_38 rfl (lv_at hl 4 rfl) ?_
  refine lv_bipush (v := 6) hx hb dX1_move_39 (by decide) ?_
  refine rd1_signed (b := 6) (by decide) ⟨hx, hb, hml, hown, hts⟩ hK hP ⟨Nat.le_of_ble_eq_true rfl, Nat.le_of_ble_eq_true rfl⟩ hl.1 (Nat.le_of_ble_eq_true rfl) dX1_move_41 ⟨Nat.zero_le _, Nat.zero_le _⟩ ?_
  refine lv_iadd hx hb dX1_move_44 ?_
  refine lv_bipush (v := 63) hx hb dX1_move_45 (by decide) ?_
  refine lv_iand hx hb dX1_move_47 ?_
  refine lv_istore (lv' := [(5, .int (((t_rr v ((ir >>> ((6 : Int32) &&& 31)) &&& 7).toNatClampNeg) + (sgnF ir 6)) &&& 63)), (4, .int (((t_pc v) + (sgnF ir 9)) &&& 63)), (3, .int ((ir >>> ((9 : Int32) &&& 31)) &&& 7)), (0, .ref g0), (1, .int op), (2, .int ir)]) hx hb dX1_move_48 hl (by decide) rfl (fun ls hl => ?_)
  refine lv_aload_n hx hb dX1_move_50 rfl (lv_at hl 3 rfl) ?_
  refine va_get (D := (dC, dI)) (ci := 1) (v := .ref pm) (C := RX1) (T := TX1) (N := 6) hx hb hts in_X1 hown hK hP 0 rfl rfl 1 (by decide) (hts _ q214) (fun _ h9 => h9) rfl dX1_move_51 ?_
  refine lv_iload hx hb dX1_move_54 (lv_at hl 1 rfl) ?_
  refine va_iald hx hb hK hP 2 0 rfl rfl (in63 _) dX1_move_56 ?_
  refine lv_bipush (v := 63) hx hb dX1_move_57 (by decide) ?_
  refine lv_iand hx hb dX1_move_59 ?_
  refine lv_istore (lv' := [(6, .int ((t_mm v (((t_pc v) + (sgnF ir 9)) &&& 63).toNatClampNeg) &&& 63)), (5, .int (((t_rr v ((ir >>> ((6 : Int32) &&& 31)) &&& 7).toNatClampNeg) + (sgnF ir 6)) &&& 63)), (4, .int (((t_pc v) + (sgnF ir 9)) &&& 63)), (3, .int ((ir >>> ((9 : Int32) &&& 31)) &&& 7)), (0, .ref g0), (1, .int op), (2, .int ir)]) hx hb dX1_move_60 hl (by decide) rfl (fun ls hl => ?_)
  refine mov_62 (in63 _) (in63 _) (in63 _) hx hb hml hown hts ⟨Nat.le_of_ble_eq_true rfl, Nat.le_of_ble_eq_true rfl⟩ hA hK hl hP hD hS (fun H locs hP hD hS => ?_)
  refine mov_79 (in63 _) (in63 _) (in63 _) hx hb hml hown hts ⟨Nat.le_of_ble_eq_true rfl, Nat.le_of_ble_eq_true rfl⟩ hA hK hl hP hD hS (fun H locs hP hD hS => ?_)
  refine mov_97 (in63 _) (in63 _) (in63 _) hx hb hml hown hts ⟨Nat.le_of_ble_eq_true rfl, Nat.le_of_ble_eq_true rfl⟩ hA hK hl hP hD hS (fun H locs hP hD hS => ?_)
  refine mov_115 (in63 _) (in63 _) (in63 _) hx hb hml hown hts ⟨Nat.le_of_ble_eq_true rfl, Nat.le_of_ble_eq_true rfl⟩ hA hK hl hP hD hS (fun H locs hP hD hS => ?_)
  refine mov_133 (in63 _) (in63 _) (in63 _) hx hb hml hown hts ⟨Nat.le_of_ble_eq_true rfl, Nat.le_of_ble_eq_true rfl⟩ hA hK hl hP hD hS (fun H locs hP hD hS => ?_)
  refine mov_152 (in63 _) (in63 _) (in63 _) hx hb hml hown hts ⟨Nat.le_of_ble_eq_true rfl, Nat.le_of_ble_eq_true rfl⟩ hA hK hl hP hD hS (fun H locs hP hD hS => ?_)
  exact W.vret hx hb hr (fun t ht hW => ⟨⟨(movF op ir v), rfl, rfl, by rw [ht]; exact hP, va_K.moved hW.alike hK, hD⟩, hS.F ht⟩) hS.2.2 dX1_move_171
end
section
/-! MicroLc3Model.go -/
set_option maxHeartbeats 4000000 in
set_option maxRecDepth 100000 in
theorem go_37 {p : Program} {l : Launch} {e : Env} {R : Room} {s : State} {m : MethodId} {args : Array Value} {below : List Frame} {meth : Method} {c : Code} {Q : State → Prop} {dC : Nat → ClassId} {dI : Nat → Nat → Nat} {A : Nat → Prop} {g0 pr pm : Nat} {d : ClassId} {op ir bas here off far : Int32} {ls : Array Slot} (hx : p.tables.exec = Jvm.exec) (hb : c.code = cX1_go) (hml : c.maxLocals = 7) (hown : s.vm.findClass RX1 = some m.cls) (hts : ∀ w ∈ lw_all, w.before args s = true) (hT : 1 ≤ R.frames ∧ 21 ≤ R.locals) (hW : 1 ≤ R.frames ∧ 21 ≤ R.locals) (hA : ∀ q : Nat, s.heap.size ≤ q → A q) (hK : va_K (dC, dI) vwCl [(d, .int)] s) (hl : lv_has ls 7 [(6, .int far), (5, .int off), (4, .int here), (3, .int bas), (0, .ref g0), (1, .int op), (2, .int ir)]) {v : mc_S1} {H : Heap} {locs : List Loc} (hP : va_P (dC, dI) vwCl (mc_W1 g0 pr pm d v) H) (hD : va_D A (mc_W1 g0 pr pm d v)) (hS : va_S A s.heap H locs) (kk : ∀ (H : Heap) (locs : List Loc), va_P (dC, dI) vwCl (mc_W1 g0 pr pm d (go1 op ir off v)) H → va_D A (mc_W1 g0 pr pm d (go1 op ir off v)) → va_S A s.heap H locs → W p l e R s m args below meth c H locs 0 0 Q (F0 m 64 ls [])) : W p l e R s m args below meth c H locs 0 0 Q (F0 m 37 ls []) := by
  refine lv_iload_n hx hb dX1_go_37 rfl (lv_at hl 5 rfl) ?_
  refine lv_if_ne (tgt := 64) hx hb dX1_go_38 (by decide) (fun c_1 => ?_) (fun c_1 => ?_)
  · have ev : go1 op ir off v = v := by unfold go1; rw [if_neg c_1]
    rw [ev] at kk
    exact kk _ _ hP hD hS
  · refine lv_aload_n hx hb dX1_go_41 rfl (lv_at hl 4 rfl) ?_
    refine lv_iload_n hx hb dX1_go_42 rfl (lv_at hl 6 rfl) ?_
    refine rd1_taken ⟨hx, hb, hml, hown, hts⟩ hK hP hT hl.1 (Nat.le_of_ble_eq_true rfl) dX1_go_43 ⟨Nat.zero_le _, Nat.zero_le _⟩ ?_
    refine lv_if_eq (tgt := 64) hx hb dX1_go_46 (by decide) (fun c_2 => ?_) (fun c_2 => ?_)
    · have ev : go1 op ir off v = v := by unfold go1; rw [if_pos c_1, if_pos c_2]
      rw [ev] at kk
      exact kk _ _ hP hD hS
    · refine lv_aload_n hx hb dX1_go_49 rfl (lv_at hl 4 rfl) ?_
      refine lv_aload_n hx hb dX1_go_50 rfl (lv_at hl 4 rfl) ?_
      refine lv_aload_n hx hb dX1_go_51 rfl (lv_at hl 4 rfl) ?_
      refine va_get (D := (dC, dI)) (ci := 1) (v := .int (t_pc v)) (C := RX1) (T := TX1) (N := 6) hx hb hts in_X1 hown hK hP 0 rfl rfl 2 (by decide) (hts _ q215) (fun _ h9 => h9) rfl dX1_go_52 ?_
      refine lv_iload hx hb dX1_go_55 (lv_at hl 1 rfl) ?_
      refine lv_iadd hx hb dX1_go_57 ?_
      refine rd1_word ⟨hx, hb, hml, hown, hts⟩ hK hP hW hl.1 (Nat.le_of_ble_eq_true rfl) dX1_go_58 ⟨Nat.zero_le _, Nat.zero_le _⟩ ?_
      refine va_put (D := (dC, dI)) (ci := 1) (v := .int (wordF ((t_pc v) + off))) (ty := .int) (C := RX1) (T := TX1) (N := 6) hx hb hts in_X1 tyX1 tyX1_ok nmX1 hown hK hP hD hS 0 rfl rfl 2 (by decide) (hts _ q215) (fun _ h9 => h9) rfl (by decide +kernel) rfl rfl (Nat.le_of_ble_eq_true rfl) dX1_go_61 (fun H locs hP hD hS => ?_)
      have hP : va_P (dC, dI) vwCl (mc_W1 g0 pr pm d (putt_pc v (wordF ((t_pc v) + off)))) H := hP
      have hD : va_D A (mc_W1 g0 pr pm d (putt_pc v (wordF ((t_pc v) + off)))) := hD
      have ev : go1 op ir off v = putt_pc v (wordF ((t_pc v) + off)) := by unfold go1; rw [if_pos c_1, if_neg c_2]
      rw [ev] at kk
      exact kk _ _ hP hD hS
set_option maxHeartbeats 4000000 in
set_option maxRecDepth 100000 in
theorem go_64 {p : Program} {l : Launch} {e : Env} {R : Room} {s : State} {m : MethodId} {args : Array Value} {below : List Frame} {meth : Method} {c : Code} {Q : State → Prop} {dC : Nat → ClassId} {dI : Nat → Nat → Nat} {A : Nat → Prop} {g0 pr pm : Nat} {d : ClassId} {op ir bas here off far : Int32} {ls : Array Slot} (hx : p.tables.exec = Jvm.exec) (hb : c.code = cX1_go) (hml : c.maxLocals = 7) (hown : s.vm.findClass RX1 = some m.cls) (hts : ∀ w ∈ lw_all, w.before args s = true) (hA : ∀ q : Nat, s.heap.size ≤ q → A q) (hK : va_K (dC, dI) vwCl [(d, .int)] s) (hl : lv_has ls 7 [(6, .int far), (5, .int off), (4, .int here), (3, .int bas), (0, .ref g0), (1, .int op), (2, .int ir)]) {v : mc_S1} {H : Heap} {locs : List Loc} (hP : va_P (dC, dI) vwCl (mc_W1 g0 pr pm d v) H) (hD : va_D A (mc_W1 g0 pr pm d v)) (hS : va_S A s.heap H locs) (kk : ∀ (H : Heap) (locs : List Loc), va_P (dC, dI) vwCl (mc_W1 g0 pr pm d (go2 op bas v)) H → va_D A (mc_W1 g0 pr pm d (go2 op bas v)) → va_S A s.heap H locs → W p l e R s m args below meth c H locs 0 0 Q (F0 m 75 ls [])) : W p l e R s m args below meth c H locs 0 0 Q (F0 m 64 ls []) := by
  refine lv_iload_n hx hb dX1_go_64 rfl (lv_at hl 5 rfl) ?_
  refine lv_bipush (v := 12) hx hb dX1_go_65 (by decide) ?_
  refine lv_icmp_ne (tgt := 75) hx hb dX1_go_67 (by decide) (fun c_1 => ?_) (fun c_1 => ?_)
  · have ev : go2 op bas v = v := by unfold go2; rw [if_neg c_1]
    rw [ev] at kk
    exact kk _ _ hP hD hS
  · refine lv_aload_n hx hb dX1_go_70 rfl (lv_at hl 4 rfl) ?_
    refine lv_iload_n hx hb dX1_go_71 rfl (lv_at hl 3 rfl) ?_
    refine va_put (D := (dC, dI)) (ci := 1) (v := .int bas) (ty := .int) (C := RX1) (T := TX1) (N := 6) hx hb hts in_X1 tyX1 tyX1_ok nmX1 hown hK hP hD hS 0 rfl rfl 2 (by decide) (hts _ q215) (fun _ h9 => h9) rfl (by decide +kernel) rfl rfl (Nat.le_of_ble_eq_true rfl) dX1_go_72 (fun H locs hP hD hS => ?_)
    have hP : va_P (dC, dI) vwCl (mc_W1 g0 pr pm d (putt_pc v bas)) H := hP
    have hD : va_D A (mc_W1 g0 pr pm d (putt_pc v bas)) := hD
    have ev : go2 op bas v = putt_pc v bas := by unfold go2; rw [if_pos c_1]
    rw [ev] at kk
    exact kk _ _ hP hD hS
set_option maxHeartbeats 4000000 in
set_option maxRecDepth 100000 in
theorem go_75 {p : Program} {l : Launch} {e : Env} {R : Room} {s : State} {m : MethodId} {args : Array Value} {below : List Frame} {meth : Method} {c : Code} {Q : State → Prop} {dC : Nat → ClassId} {dI : Nat → Nat → Nat} {A : Nat → Prop} {g0 pr pm : Nat} {d : ClassId} {op ir bas here off far : Int32} {ls : Array Slot} (hx : p.tables.exec = Jvm.exec) (hb : c.code = cX1_go) (hml : c.maxLocals = 7) (hown : s.vm.findClass RX1 = some m.cls) (hts : ∀ w ∈ lw_all, w.before args s = true) (hW : 1 ≤ R.frames ∧ 21 ≤ R.locals) (hA : ∀ q : Nat, s.heap.size ≤ q → A q) (hK : va_K (dC, dI) vwCl [(d, .int)] s) (hl : lv_has ls 7 [(6, .int far), (5, .int off), (4, .int here), (3, .int bas), (0, .ref g0), (1, .int op), (2, .int ir)]) {v : mc_S1} {H : Heap} {locs : List Loc} (hP : va_P (dC, dI) vwCl (mc_W1 g0 pr pm d v) H) (hD : va_D A (mc_W1 g0 pr pm d v)) (hS : va_S A s.heap H locs) (kk : ∀ (H : Heap) (locs : List Loc), va_P (dC, dI) vwCl (mc_W1 g0 pr pm d (go3 op ir bas here far v)) H → va_D A (mc_W1 g0 pr pm d (go3 op ir bas here far v)) → va_S A s.heap H locs → W p l e R s m args below meth c H locs 0 0 Q (F0 m 116 ls [])) : W p l e R s m args below meth c H locs 0 0 Q (F0 m 75 ls []) := by
  refine lv_iload_n hx hb dX1_go_75 rfl (lv_at hl 5 rfl) ?_
  refine lv_iconst (v := 4) hx hb dX1_go_76 (by decide) ?_
  refine lv_icmp_ne (tgt := 116) hx hb dX1_go_77 (by decide) (fun c_1 => ?_) (fun c_1 => ?_)
  · have ev : go3 op ir bas here far v = v := by unfold go3; rw [if_neg c_1]
    rw [ev] at kk
    exact kk _ _ hP hD hS
  · refine lv_aload_n hx hb dX1_go_80 rfl (lv_at hl 4 rfl) ?_
    refine va_get (D := (dC, dI)) (ci := 1) (v := .ref pr) (C := RX1) (T := TX1) (N := 6) hx hb hts in_X1 hown hK hP 0 rfl rfl 0 (by decide) (hts _ q213) (fun _ h9 => h9) rfl dX1_go_81 ?_
    refine lv_bipush (v := 7) hx hb dX1_go_84 (by decide) ?_
    refine lv_iload hx hb dX1_go_86 (lv_at hl 2 rfl) ?_
    refine va_iast hx hb hK hP hD hS 1 0 rfl rfl (vp_in_nI (n := 7) (by decide) (by decide)) dX1_go_88 (fun H locs hP hD hS => ?_)
    have hP : va_P (dC, dI) vwCl (mc_W1 g0 pr pm d (putt_rr v (upd (t_rr v) (7 : Int32).toNatClampNeg here))) H := hP
    have hD : va_D A (mc_W1 g0 pr pm d (putt_rr v (upd (t_rr v) (7 : Int32).toNatClampNeg here))) := hD
    refine lv_aload_n hx hb dX1_go_89 rfl (lv_at hl 4 rfl) ?_
    refine lv_iload_n hx hb dX1_go_90 rfl (lv_at hl 6 rfl) ?_
    refine lv_bipush (v := 11) hx hb dX1_go_91 (by decide) ?_
    refine lv_ishr hx hb dX1_go_93 ?_
    refine lv_iconst (v := 1) hx hb dX1_go_94 (by decide) ?_
    refine lv_iand hx hb dX1_go_95 ?_
    refine lv_iconst (v := 1) hx hb dX1_go_96 (by decide) ?_
    refine lv_icmp_ne (tgt := 112) hx hb dX1_go_97 (by decide) (fun c_2 => ?_) (fun c_2 => ?_)
    · refine lv_iload_n hx hb dX1_go_112 rfl (lv_at hl 3 rfl) ?_
      refine va_put (D := (dC, dI)) (ci := 1) (v := .int bas) (ty := .int) (C := RX1) (T := TX1) (N := 6) hx hb hts in_X1 tyX1 tyX1_ok nmX1 hown hK hP hD hS 0 rfl rfl 2 (by decide) (hts _ q215) (fun _ h9 => h9) rfl (by decide +kernel) rfl rfl (Nat.le_of_ble_eq_true rfl) dX1_go_113 (fun H locs hP hD hS => ?_)
      have hP : va_P (dC, dI) vwCl (mc_W1 g0 pr pm d (putt_pc (putt_rr v (upd (t_rr v) (7 : Int32).toNatClampNeg here)) bas)) H := hP
      have hD : va_D A (mc_W1 g0 pr pm d (putt_pc (putt_rr v (upd (t_rr v) (7 : Int32).toNatClampNeg here)) bas)) := hD
      have ev : go3 op ir bas here far v = putt_pc (putt_rr v (upd (t_rr v) (7 : Int32).toNatClampNeg here)) bas := by unfold go3; rw [if_pos c_1, if_neg c_2]
      rw [ev] at kk
      exact kk _ _ hP hD hS
    · refine lv_aload_n hx hb dX1_go_100 rfl (lv_at hl 4 rfl) ?_
      refine lv_iload hx hb dX1_go_101 (lv_at hl 2 rfl) ?_
      refine lv_iload hx hb dX1_go_103 (lv_at hl 0 rfl) ?_
      refine lv_iadd hx hb dX1_go_105 ?_
      refine rd1_word ⟨hx, hb, hml, hown, hts⟩ hK hP hW hl.1 (Nat.le_of_ble_eq_true rfl) dX1_go_106 ⟨Nat.zero_le _, Nat.zero_le _⟩ ?_
      refine lv_goto (tgt := 113) hx hb dX1_go_109 (by decide) ?_
      refine va_put (D := (dC, dI)) (ci := 1) (v := .int (wordF (here + far))) (ty := .int) (C := RX1) (T := TX1) (N := 6) hx hb hts in_X1 tyX1 tyX1_ok nmX1 hown hK hP hD hS 0 rfl rfl 2 (by decide) (hts _ q215) (fun _ h9 => h9) rfl (by decide +kernel) rfl rfl (Nat.le_of_ble_eq_true rfl) dX1_go_113 (fun H locs hP hD hS => ?_)
      have hP : va_P (dC, dI) vwCl (mc_W1 g0 pr pm d (putt_pc (putt_rr v (upd (t_rr v) (7 : Int32).toNatClampNeg here)) (wordF (here + far)))) H := hP
      have hD : va_D A (mc_W1 g0 pr pm d (putt_pc (putt_rr v (upd (t_rr v) (7 : Int32).toNatClampNeg here)) (wordF (here + far)))) := hD
      have ev : go3 op ir bas here far v = putt_pc (putt_rr v (upd (t_rr v) (7 : Int32).toNatClampNeg here)) (wordF (here + far)) := by unfold go3; rw [if_pos c_1, if_pos c_2]
      rw [ev] at kk
      exact kk _ _ hP hD hS
set_option maxHeartbeats 4000000 in
set_option maxRecDepth 100000 in
theorem go_116 {p : Program} {l : Launch} {e : Env} {R : Room} {s : State} {m : MethodId} {args : Array Value} {below : List Frame} {meth : Method} {c : Code} {Q : State → Prop} {dC : Nat → ClassId} {dI : Nat → Nat → Nat} {A : Nat → Prop} {g0 pr pm : Nat} {d : ClassId} {op ir bas here off far : Int32} {ls : Array Slot} (hx : p.tables.exec = Jvm.exec) (hb : c.code = cX1_go) (hml : c.maxLocals = 7) (hown : s.vm.findClass RX1 = some m.cls) (hts : ∀ w ∈ lw_all, w.before args s = true) (hA : ∀ q : Nat, s.heap.size ≤ q → A q) (hK : va_K (dC, dI) vwCl [(d, .int)] s) (hl : lv_has ls 7 [(6, .int far), (5, .int off), (4, .int here), (3, .int bas), (0, .ref g0), (1, .int op), (2, .int ir)]) {v : mc_S1} {H : Heap} {locs : List Loc} (hP : va_P (dC, dI) vwCl (mc_W1 g0 pr pm d v) H) (hD : va_D A (mc_W1 g0 pr pm d v)) (hS : va_S A s.heap H locs) (kk : ∀ (H : Heap) (locs : List Loc), va_P (dC, dI) vwCl (mc_W1 g0 pr pm d (go4 op v)) H → va_D A (mc_W1 g0 pr pm d (go4 op v)) → va_S A s.heap H locs → W p l e R s m args below meth c H locs 0 0 Q (F0 m 127 ls [])) : W p l e R s m args below meth c H locs 0 0 Q (F0 m 116 ls []) := by
  refine lv_iload_n hx hb dX1_go_116 rfl (lv_at hl 5 rfl) ?_
  refine lv_bipush (v := 15) hx hb dX1_go_117 (by decide) ?_
  refine lv_icmp_ne (tgt := 127) hx hb dX1_go_119 (by decide) (fun c_1 => ?_) (fun c_1 => ?_)
  · have ev : go4 op v = v := by unfold go4; rw [if_neg c_1]
    rw [ev] at kk
    exact kk _ _ hP hD hS
  · refine lv_aload_n hx hb dX1_go_122 rfl (lv_at hl 4 rfl) ?_
    refine lv_iconst (v := 1) hx hb dX1_go_123 (by decide) ?_
    refine va_put (D := (dC, dI)) (ci := 1) (v := .int 1) (ty := .int) (C := RX1) (T := TX1) (N := 6) hx hb hts in_X1 tyX1 tyX1_ok nmX1 hown hK hP hD hS 0 rfl rfl 4 (by decide) (hts _ q217) (fun _ h9 => h9) rfl (by decide +kernel) rfl rfl (Nat.le_of_ble_eq_true rfl) dX1_go_124 (fun H locs hP hD hS => ?_)
    have hP : va_P (dC, dI) vwCl (mc_W1 g0 pr pm d (putt_st v 1)) H := hP
    have hD : va_D A (mc_W1 g0 pr pm d (putt_st v 1)) := hD
    have ev : go4 op v = putt_st v 1 := by unfold go4; rw [if_pos c_1]
    rw [ev] at kk
    exact kk _ _ hP hD hS
set_option maxHeartbeats 4000000 in
set_option maxRecDepth 100000 in
theorem go_127 {p : Program} {l : Launch} {e : Env} {R : Room} {s : State} {m : MethodId} {args : Array Value} {below : List Frame} {meth : Method} {c : Code} {Q : State → Prop} {dC : Nat → ClassId} {dI : Nat → Nat → Nat} {A : Nat → Prop} {g0 pr pm : Nat} {d : ClassId} {op ir bas here off far : Int32} {ls : Array Slot} (hx : p.tables.exec = Jvm.exec) (hb : c.code = cX1_go) (hml : c.maxLocals = 7) (hown : s.vm.findClass RX1 = some m.cls) (hts : ∀ w ∈ lw_all, w.before args s = true) (hA : ∀ q : Nat, s.heap.size ≤ q → A q) (hK : va_K (dC, dI) vwCl [(d, .int)] s) (hl : lv_has ls 7 [(6, .int far), (5, .int off), (4, .int here), (3, .int bas), (0, .ref g0), (1, .int op), (2, .int ir)]) {v : mc_S1} {H : Heap} {locs : List Loc} (hP : va_P (dC, dI) vwCl (mc_W1 g0 pr pm d v) H) (hD : va_D A (mc_W1 g0 pr pm d v)) (hS : va_S A s.heap H locs) (kk : ∀ (H : Heap) (locs : List Loc), va_P (dC, dI) vwCl (mc_W1 g0 pr pm d (go5 op v)) H → va_D A (mc_W1 g0 pr pm d (go5 op v)) → va_S A s.heap H locs → W p l e R s m args below meth c H locs 0 0 Q (F0 m 144 ls [])) : W p l e R s m args below meth c H locs 0 0 Q (F0 m 127 ls []) := by
  refine lv_iload_n hx hb dX1_go_127 rfl (lv_at hl 5 rfl) ?_
  refine lv_bipush (v := 8) hx hb dX1_go_128 (by decide) ?_
  refine lv_icmp_eq (tgt := 139) hx hb dX1_go_130 (by decide) (fun c_1 => ?_) (fun c_1 => ?_)
  · refine lv_aload_n hx hb dX1_go_139 rfl (lv_at hl 4 rfl) ?_
    refine lv_iconst (v := 2) hx hb dX1_go_140 (by decide) ?_
    refine va_put (D := (dC, dI)) (ci := 1) (v := .int 2) (ty := .int) (C := RX1) (T := TX1) (N := 6) hx hb hts in_X1 tyX1 tyX1_ok nmX1 hown hK hP hD hS 0 rfl rfl 4 (by decide) (hts _ q217) (fun _ h9 => h9) rfl (by decide +kernel) rfl rfl (Nat.le_of_ble_eq_true rfl) dX1_go_141 (fun H locs hP hD hS => ?_)
    have hP : va_P (dC, dI) vwCl (mc_W1 g0 pr pm d (putt_st v 2)) H := hP
    have hD : va_D A (mc_W1 g0 pr pm d (putt_st v 2)) := hD
    have ev : go5 op v = putt_st v 2 := by unfold go5; rw [if_pos c_1]
    rw [ev] at kk
    exact kk _ _ hP hD hS
  · refine lv_iload_n hx hb dX1_go_133 rfl (lv_at hl 5 rfl) ?_
    refine lv_bipush (v := 13) hx hb dX1_go_134 (by decide) ?_
    refine lv_icmp_ne (tgt := 144) hx hb dX1_go_136 (by decide) (fun c_2 => ?_) (fun c_2 => ?_)
    · have ev : go5 op v = v := by unfold go5; rw [if_neg c_1, if_neg c_2]
      rw [ev] at kk
      exact kk _ _ hP hD hS
    · refine lv_aload_n hx hb dX1_go_139 rfl (lv_at hl 4 rfl) ?_
      refine lv_iconst (v := 2) hx hb dX1_go_140 (by decide) ?_
      refine va_put (D := (dC, dI)) (ci := 1) (v := .int 2) (ty := .int) (C := RX1) (T := TX1) (N := 6) hx hb hts in_X1 tyX1 tyX1_ok nmX1 hown hK hP hD hS 0 rfl rfl 4 (by decide) (hts _ q217) (fun _ h9 => h9) rfl (by decide +kernel) rfl rfl (Nat.le_of_ble_eq_true rfl) dX1_go_141 (fun H locs hP hD hS => ?_)
      have hP : va_P (dC, dI) vwCl (mc_W1 g0 pr pm d (putt_st v 2)) H := hP
      have hD : va_D A (mc_W1 g0 pr pm d (putt_st v 2)) := hD
      have ev : go5 op v = putt_st v 2 := by unfold go5; rw [if_neg c_1, if_pos c_2]
      rw [ev] at kk
      exact kk _ _ hP hD hS
set_option maxHeartbeats 4000000 in
set_option maxRecDepth 100000 in
theorem met1_go (l : Launch) (dC : Nat → ClassId) (dI : Nat → Nat → Nat) (g0 pr pm : Nat) (d : ClassId) (sz : Nat) (v : mc_S1) (op ir : Int32) : Met l yX1_go (ws_ yX1_go cX1_go 7 none) ({ frames := 1, cells := 0, slots := 0, locals := 23 }) (va_Pc [.ref g0, .int op, .int ir] (mc_P1 dC dI g0 pr pm d sz v)) (va_Qv (fun v' : mc_S1 => v' = goF op ir v) (mc_B1 dC dI (va_A (mc_W1 g0 pr pm d v) sz) g0 pr pm d) (va_A (mc_W1 g0 pr pm d v) sz)) 0 0 (va_A (mc_W1 g0 pr pm d v) sz) := by
  refine Met.ofW (cc := cX1_go) (maxL := 7) (ret := none) (by decide) rfl ?_
  intro p e s m args below meth c s₁ B hml hv
  obtain ⟨rfl, hsz, hP, hK, hD0⟩ := hv
  have hx := B.exec
  have hb := B.bytes
  have hr := B.returns
  have hts := atoms_spec (ws := (ws_ yX1_go cX1_go 7 none)) B.pre
  have hts : ∀ w ∈ lw_all, w.before _ s = true := fun w h => hts w (List.mem_cons_of_mem _ h)
  have hown : s.vm.findClass RX1 = some m.cls := findClass_of_methodNamed B.named
  have hlocks := B.notSynchronized
  subst hsz
  have hD := hD0.self (sz := s.heap.size)
  generalize hAe : va_A (mc_W1 g0 pr pm d v) s.heap.size = A at hD ⊢
  have hA : ∀ q : Nat, s.heap.size ≤ q → A q := fun q h => by rw [← hAe]; exact Or.inr h
  have hS : va_S A s.heap s.heap [] := va_S.rf
  have hP : va_P (dC, dI) vwCl (mc_W1 g0 pr pm d v) s.heap := hP
  have hl := lv_entry ([.ref g0, .int op, .int ir]) (n := 7) (Nat.le_of_ble_eq_true rfl)
  rw [lg_entry_eq]
  generalize (lg_sl ([.ref g0, .int op, .int ir]) ++ List.replicate (7 - (lg_sl ([.ref g0, .int op, .int ir])).length) Slot.unset).toArray = ls at hl ⊢
  have hl : lv_has ls 7 [(0, .ref g0), (1, .int op), (2, .int ir)] := hl
  refine lv_aload_n hx hb dX1_go_0 rfl (lv_at hl 0 rfl) ?_
  refine va_get (D := (dC, dI)) (ci := 1) (v := .ref pr) (C := RX1) (T := TX1) (N := 6) hx hb hts in_X1 hown hK hP 0 rfl rfl 0 (by decide) (hts _ q213) (fun _ h9 => h9) rfl dX1_go_1 ?_
  refine lv_iload_n hx hb dX1_go_4 rfl (lv_at hl 2 rfl) ?_
  refine lv_bipush (v := 6) hx hb dX1_go_5 (by decide) ?_
  refine lv_ishr hx hb dX1_go_7 ?_
  refine lv_bipush (v := 7) hx hb dX1_go_8 (by decide) ?_
  refine lv_iand hx hb dX1_go_10 ?_
  refine va_iald hx hb hK hP 1 0 rfl rfl (in7 _) dX1_go_11 ?_
  refine lv_istore_n (lv' := [(3, .int (t_rr v ((ir >>> ((6 : Int32) &&& 31)) &&& 7).toNatClampNeg)), (0, .ref g0), (1, .int op), (2, .int ir)]) hx hb dX1_go_12 rfl hl (by decide) rfl (fun ls hl => ?_)
  refine lv_aload_n hx hb dX1_go_13 rfl (lv_at hl 1 rfl) ?_
  refine va_get (D := (dC, dI)) (ci := 1) (v := .int (t_pc v)) (C := RX1) (T := TX1) (N := 6) hx hb hts in_X1 hown hK hP 0 rfl rfl 2 (by decide) (hts _ q215) (fun _ h9 => h9) rfl dX1_go_14 ?_
  refine lv_istore (lv' := [(4, .int (t_pc v)), (3, .int (t_rr v ((ir >>> ((6 : Int32) &&& 31)) &&& 7).toNatClampNeg)), (0, .ref g0), (1, .int op), (2, .int ir)]) hx hb dX1_go_17 hl (by decide) rfl (fun ls hl => ?_)
  refine lv_aload_n hx hb dX1_go_19 rfl (lv_at hl 2 rfl) ?_
  refine lv_iload_n hx hb dX1_go_20 rfl (lv_at hl 4 rfl) ?_
  refine lv_bipush (v := 9) hx hb dX1_go_21 (by decide) ?_
  refine rd1_signed (b := 9) (by decide) ⟨hx, hb, hml, hown, hts⟩ hK hP ⟨Nat.le_of_ble_eq_true rfl, Nat.le_of_ble_eq_true rfl⟩ hl.1 (Nat.le_of_ble_eq_true rfl) dX1_go_23 ⟨Nat.zero_le _, Nat.zero_le _⟩ ?_
  refine lv_istore (lv' := [(5, .int (sgnF ir 9)), (4, .int (t_pc v)), (3, .int (t_rr v ((ir >>> ((6 : Int32) &&& 31)) &&& 7).toNatClampNeg)), (0, .ref g0), (1, .int op), (2, .int ir)]) hx hb dX1_go_26 hl (by decide) rfl (fun ls hl => ?_)
  refine lv_aload_n hx hb dX1_go_28 rfl (lv_at hl 3 rfl) ?_
  refine lv_iload_n hx hb dX1_go_29 rfl (lv_at hl 5 rfl) ?_
  refine lv_bipush (v := 11) hx hb dX1_go_30 (by decide) ?_
  refine rd1_signed (b := 11) (by decide) ⟨hx, hb, hml, hown, hts⟩ hK hP ⟨Nat.le_of_ble_eq_true rfl, Nat.le_of_ble_eq_true rfl⟩ hl.1 (Nat.le_of_ble_eq_true rfl) dX1_go_32 ⟨Nat.zero_le _, Nat.zero_le _⟩ ?_
  refine lv_istore (lv' := [(6, .int (sgnF ir 11)), (5, .int (sgnF ir 9)), (4, .int (t_pc v)), (3, .int (t_rr v ((ir >>> ((6 : Int32) &&& 31)) &&& 7).toNatClampNeg)), (0, .ref g0), (1, .int op), (2, .int ir)]) hx hb dX1_go_35 hl (by decide) rfl (fun ls hl => ?_)
  refine go_37 hx hb hml hown hts ⟨Nat.le_of_ble_eq_true rfl, Nat.le_of_ble_eq_true rfl⟩ ⟨Nat.le_of_ble_eq_true rfl, Nat.le_of_ble_eq_true rfl⟩ hA hK hl hP hD hS (fun H locs hP hD hS => ?_)
  refine go_64 hx hb hml hown hts hA hK hl hP hD hS (fun H locs hP hD hS => ?_)
  refine go_75 hx hb hml hown hts ⟨Nat.le_of_ble_eq_true rfl, Nat.le_of_ble_eq_true rfl⟩ hA hK hl hP hD hS (fun H locs hP hD hS => ?_)
  refine go_116 hx hb hml hown hts hA hK hl hP hD hS (fun H locs hP hD hS => ?_)
  refine go_127 hx hb hml hown hts hA hK hl hP hD hS (fun H locs hP hD hS => ?_)
  exact W.vret hx hb hr (fun t ht hW => ⟨⟨(goF op ir v), rfl, rfl, by rw [ht]; exact hP, va_K.moved hW.alike hK, hD⟩, hS.F ht⟩) hS.2.2 dX1_go_144
end
section
/-! MicroLc3Model: execute, step, the constructor -/
set_option maxHeartbeats 4000000 in
set_option maxRecDepth 100000 in
theorem met1_execute (l : Launch) (dC : Nat → ClassId) (dI : Nat → Nat → Nat) (g0 pr pm : Nat) (d : ClassId) (sz : Nat) (v : mc_S1) : Met l yX1_execute (ws_ yX1_execute cX1_execute 3 none) ({ frames := 3, cells := 0, slots := 0, locals := 72 }) (va_Pc [.ref g0] (mc_P1 dC dI g0 pr pm d sz v)) (va_Qv (fun v' : mc_S1 => v' = exeF v) (mc_B1 dC dI (va_A (mc_W1 g0 pr pm d v) sz) g0 pr pm d) (va_A (mc_W1 g0 pr pm d v) sz)) 0 0 (va_A (mc_W1 g0 pr pm d v) sz) := by
  refine Met.ofW (cc := cX1_execute) (maxL := 3) (ret := none) (by decide) rfl ?_
  intro p e s m args below meth c s₁ B hml hv
  obtain ⟨rfl, hsz, hP, hK, hD0⟩ := hv
  have hx := B.exec
  have hb := B.bytes
  have hr := B.returns
  have hts := atoms_spec (ws := (ws_ yX1_execute cX1_execute 3 none)) B.pre
  have hts : ∀ w ∈ lw_all, w.before _ s = true := fun w h => hts w (List.mem_cons_of_mem _ h)
  have hown : s.vm.findClass RX1 = some m.cls := findClass_of_methodNamed B.named
  have hlocks := B.notSynchronized
  subst hsz
  have hD := hD0.self (sz := s.heap.size)
  generalize hAe : va_A (mc_W1 g0 pr pm d v) s.heap.size = A at hD ⊢
  have hA : ∀ q : Nat, s.heap.size ≤ q → A q := fun q h => by rw [← hAe]; exact Or.inr h
  have hS : va_S A s.heap s.heap [] := va_S.rf
  have hP : va_P (dC, dI) vwCl (mc_W1 g0 pr pm d v) s.heap := hP
  have hl := lv_entry ([.ref g0]) (n := 3) (Nat.le_of_ble_eq_true rfl)
  rw [lg_entry_eq]
  generalize (lg_sl ([.ref g0]) ++ List.replicate (3 - (lg_sl ([.ref g0])).length) Slot.unset).toArray = ls at hl ⊢
  have hl : lv_has ls 3 [(0, .ref g0)] := hl
  refine lv_aload_n hx hb dX1_execute_0 rfl (lv_at hl 0 rfl) ?_
  refine va_get (D := (dC, dI)) (ci := 1) (v := .ref pm) (C := RX1) (T := TX1) (N := 6) hx hb hts in_X1 hown hK hP 0 rfl rfl 1 (by decide) (hts _ q214) (fun _ h9 => h9) rfl dX1_execute_1 ?_
  refine lv_aload_n hx hb dX1_execute_4 rfl (lv_at hl 0 rfl) ?_
  refine va_get (D := (dC, dI)) (ci := 1) (v := .int (t_pc v)) (C := RX1) (T := TX1) (N := 6) hx hb hts in_X1 hown hK hP 0 rfl rfl 2 (by decide) (hts _ q215) (fun _ h9 => h9) rfl dX1_execute_5 ?_
  refine lv_bipush (v := 63) hx hb dX1_execute_8 (by decide) ?_
  refine lv_iand hx hb dX1_execute_10 ?_
  refine va_iald hx hb hK hP 2 0 rfl rfl (in63 _) dX1_execute_11 ?_
  refine lv_istore_n (lv' := [(1, .int (t_mm v ((t_pc v) &&& 63).toNatClampNeg)), (0, .ref g0)]) hx hb dX1_execute_12 rfl hl (by decide) rfl (fun ls hl => ?_)
  refine lv_iload_n hx hb dX1_execute_13 rfl (lv_at hl 0 rfl) ?_
  refine lv_bipush (v := 12) hx hb dX1_execute_14 (by decide) ?_
  refine lv_ishr hx hb dX1_execute_16 ?_
  refine lv_istore_n (lv' := [(2, .int ((t_mm v ((t_pc v) &&& 63).toNatClampNeg) >>> ((12 : Int32) &&& 31))), (1, .int (t_mm v ((t_pc v) &&& 63).toNatClampNeg)), (0, .ref g0)]) hx hb dX1_execute_17 rfl hl (by decide) rfl (fun ls hl => ?_)
  refine lv_aload_n hx hb dX1_execute_18 rfl (lv_at hl 2 rfl) ?_
  refine lv_aload_n hx hb dX1_execute_19 rfl (lv_at hl 2 rfl) ?_
  refine lv_aload_n hx hb dX1_execute_20 rfl (lv_at hl 2 rfl) ?_
  refine va_get (D := (dC, dI)) (ci := 1) (v := .int (t_pc v)) (C := RX1) (T := TX1) (N := 6) hx hb hts in_X1 hown hK hP 0 rfl rfl 2 (by decide) (hts _ q215) (fun _ h9 => h9) rfl dX1_execute_21 ?_
  refine lv_iconst (v := 1) hx hb dX1_execute_24 (by decide) ?_
  refine lv_iadd hx hb dX1_execute_25 ?_
  refine rd1_word ⟨hx, hb, hml, hown, hts⟩ hK hP ⟨Nat.le_of_ble_eq_true rfl, Nat.le_of_ble_eq_true rfl⟩ hl.1 (Nat.le_of_ble_eq_true rfl) dX1_execute_26 ⟨Nat.zero_le _, Nat.zero_le _⟩ ?_
  refine va_put (D := (dC, dI)) (ci := 1) (v := .int (wordF ((t_pc v) + 1))) (ty := .int) (C := RX1) (T := TX1) (N := 6) hx hb hts in_X1 tyX1 tyX1_ok nmX1 hown hK hP hD hS 0 rfl rfl 2 (by decide) (hts _ q215) (fun _ h9 => h9) rfl (by decide +kernel) rfl rfl (Nat.le_of_ble_eq_true rfl) dX1_execute_29 (fun H locs hP hD hS => ?_)
  have hP : va_P (dC, dI) vwCl (mc_W1 g0 pr pm d (putt_pc v (wordF ((t_pc v) + 1)))) H := hP
  have hD : va_D A (mc_W1 g0 pr pm d (putt_pc v (wordF ((t_pc v) + 1)))) := hD
  refine lv_aload_n hx hb dX1_execute_32 rfl (lv_at hl 2 rfl) ?_
  refine lv_iload_n hx hb dX1_execute_33 rfl (lv_at hl 0 rfl) ?_
  refine lv_iload_n hx hb dX1_execute_34 rfl (lv_at hl 1 rfl) ?_
  refine wc_1 (As := [.int ((t_mm v ((t_pc v) &&& 63).toNatClampNeg) >>> ((12 : Int32) &&& 31)), .int (t_mm v ((t_pc v) &&& 63).toNatClampNeg)]) (rest := []) ⟨hx, hb, hml, hown, hts⟩ hA (fun sz => met1_calculate l dC dI g0 pr pm d sz (putt_pc v (wordF ((t_pc v) + 1))) ((t_mm v ((t_pc v) &&& 63).toNatClampNeg) >>> ((12 : Int32) &&& 31)) (t_mm v ((t_pc v) &&& 63).toNatClampNeg)) (cwV 2 hts (lw_V q269 q271 qs16 q24 q272) rfl rfl rfl (by decide +kernel) ⟨Nat.le_of_ble_eq_true rfl, Nat.le_of_ble_eq_true rfl⟩) hK hP hD hS rfl rfl hl.1 (Nat.le_of_ble_eq_true rfl) dX1_execute_35 ⟨Nat.zero_le _, Nat.zero_le _⟩ (fun H locs hP hD hS => ?_)
  refine lv_aload_n hx hb dX1_execute_38 rfl (lv_at hl 2 rfl) ?_
  refine lv_iload_n hx hb dX1_execute_39 rfl (lv_at hl 0 rfl) ?_
  refine lv_iload_n hx hb dX1_execute_40 rfl (lv_at hl 1 rfl) ?_
  refine wc_1 (As := [.int ((t_mm v ((t_pc v) &&& 63).toNatClampNeg) >>> ((12 : Int32) &&& 31)), .int (t_mm v ((t_pc v) &&& 63).toNatClampNeg)]) (rest := []) ⟨hx, hb, hml, hown, hts⟩ hA (fun sz => met1_move l dC dI g0 pr pm d sz (calF ((t_mm v ((t_pc v) &&& 63).toNatClampNeg) >>> ((12 : Int32) &&& 31)) (t_mm v ((t_pc v) &&& 63).toNatClampNeg) (putt_pc v (wordF ((t_pc v) + 1)))) ((t_mm v ((t_pc v) &&& 63).toNatClampNeg) >>> ((12 : Int32) &&& 31)) (t_mm v ((t_pc v) &&& 63).toNatClampNeg)) (cwV 2 hts (lw_V q281 q283 qs19 q24 q284) rfl rfl rfl (by decide +kernel) ⟨Nat.le_of_ble_eq_true rfl, Nat.le_of_ble_eq_true rfl⟩) hK hP hD hS rfl rfl hl.1 (Nat.le_of_ble_eq_true rfl) dX1_execute_41 ⟨Nat.zero_le _, Nat.zero_le _⟩ (fun H locs hP hD hS => ?_)
  refine lv_aload_n hx hb dX1_execute_44 rfl (lv_at hl 2 rfl) ?_
  refine lv_iload_n hx hb dX1_execute_45 rfl (lv_at hl 0 rfl) ?_
  refine lv_iload_n hx hb dX1_execute_46 rfl (lv_at hl 1 rfl) ?_
  refine wc_1 (As := [.int ((t_mm v ((t_pc v) &&& 63).toNatClampNeg) >>> ((12 : Int32) &&& 31)), .int (t_mm v ((t_pc v) &&& 63).toNatClampNeg)]) (rest := []) ⟨hx, hb, hml, hown, hts⟩ hA (fun sz => met1_go l dC dI g0 pr pm d sz (movF ((t_mm v ((t_pc v) &&& 63).toNatClampNeg) >>> ((12 : Int32) &&& 31)) (t_mm v ((t_pc v) &&& 63).toNatClampNeg) (calF ((t_mm v ((t_pc v) &&& 63).toNatClampNeg) >>> ((12 : Int32) &&& 31)) (t_mm v ((t_pc v) &&& 63).toNatClampNeg) (putt_pc v (wordF ((t_pc v) + 1))))) ((t_mm v ((t_pc v) &&& 63).toNatClampNeg) >>> ((12 : Int32) &&& 31)) (t_mm v ((t_pc v) &&& 63).toNatClampNeg)) (cwV 2 hts (lw_V q285 q287 qs20 q24 q288) rfl rfl rfl (by decide +kernel) ⟨Nat.le_of_ble_eq_true rfl, Nat.le_of_ble_eq_true rfl⟩) hK hP hD hS rfl rfl hl.1 (Nat.le_of_ble_eq_true rfl) dX1_execute_47 ⟨Nat.zero_le _, Nat.zero_le _⟩ (fun H locs hP hD hS => ?_)
  exact W.vret hx hb hr (fun t ht hW => ⟨⟨(goF ((t_mm v ((t_pc v) &&& 63).toNatClampNeg) >>> ((12 : Int32) &&& 31)) (t_mm v ((t_pc v) &&& 63).toNatClampNeg) (movF ((t_mm v ((t_pc v) &&& 63).toNatClampNeg) >>> ((12 : Int32) &&& 31)) (t_mm v ((t_pc v) &&& 63).toNatClampNeg) (calF ((t_mm v ((t_pc v) &&& 63).toNatClampNeg) >>> ((12 : Int32) &&& 31)) (t_mm v ((t_pc v) &&& 63).toNatClampNeg) (putt_pc v (wordF ((t_pc v) + 1)))))), rfl, rfl, by rw [ht]; exact hP, va_K.moved hW.alike hK, hD⟩, hS.F ht⟩) hS.2.2 dX1_execute_50
set_option maxHeartbeats 4000000 in
set_option maxRecDepth 100000 in
theorem step1_out {p : Program} {l : Launch} {e : Env} {R : Room} {s : State} {m : MethodId} {args : Array Value} {below : List Frame} {meth : Method} {c : Code} {Q : State → Prop} {dC : Nat → ClassId} {dI : Nat → Nat → Nat} {A : Nat → Prop} {g0 pr pm : Nat} {d : ClassId} (hx : p.tables.exec = Jvm.exec) (hb : c.code = cX1_step) (hml : c.maxLocals = 5) (hown : s.vm.findClass RX1 = some m.cls) (hts : ∀ w ∈ lw_all, w.before args s = true) (hR : 4 ≤ R.frames ∧ 94 ≤ R.locals) (hA : ∀ q : Nat, s.heap.size ≤ q → A q) (hK : va_K (dC, dI) vwCl [(d, .int)] s) {x1 : Int32} {w : Nat} (hw : w ≤ 100) : ∀ (n k : Nat) (v : mc_S1) (H : Heap) (locs : List Loc) (ls : Array Slot), k + n = w → va_P (dC, dI) vwCl (mc_W1 g0 pr pm d v) H → va_D A (mc_W1 g0 pr pm d v) → va_S A s.heap H locs → lv_has ls 5 [(4, .int (nI k)), (3, .int (nI k)), (2, .int (nI w)), (0, .ref g0), (1, .int x1)] → (∀ (H : Heap) (locs : List Loc) (ls : Array Slot), va_P (dC, dI) vwCl (mc_W1 g0 pr pm d ((runG n v k).1)) H → va_D A (mc_W1 g0 pr pm d ((runG n v k).1)) → va_S A s.heap H locs → lv_has ls 5 [(3, .int (nI (runG n v k).2)), (0, .ref g0)] → W p l e R s m args below meth c H locs 0 0 Q (F0 m 52 ls [])) → W p l e R s m args below meth c H locs 0 0 Q (F0 m 26 ls []) := by
  intro n
  induction n with
  | zero =>
    intro k v H locs ls hk hP hD hS hl kk
    have hk : k = w := by omega
    subst hk
    refine lv_iload hx hb dX1_step_26 (lv_at hl 0 rfl) ?_
    refine lv_iload_n hx hb dX1_step_28 rfl (lv_at hl 2 rfl) ?_
    refine lv_icmp_ge (tgt := 52) hx hb dX1_step_29 (by decide) (fun c_1 => ?_) (fun c_1 => ?_)
    · exact kk _ _ _ hP hD hS (lv_sub hl [1, 3] rfl)
    · exact absurd (nI_le (Nat.le_refl k) (by omega)) c_1
  | succ n ih =>
    intro k v H locs ls hk hP hD hS hl kk
    refine lv_iload hx hb dX1_step_26 (lv_at hl 0 rfl) ?_
    refine lv_iload_n hx hb dX1_step_28 rfl (lv_at hl 2 rfl) ?_
    refine lv_icmp_ge (tgt := 52) hx hb dX1_step_29 (by decide) (fun c_1 => ?_) (fun c_1 => ?_)
    · exact absurd c_1 (nI_ge (a := k) (b := w) (by omega) (by omega))
    · refine lv_aload_n hx hb dX1_step_32 rfl (lv_at hl 3 rfl) ?_
      refine va_get (D := (dC, dI)) (ci := 1) (v := .int (t_st v)) (C := RX1) (T := TX1) (N := 6) hx hb hts in_X1 hown hK hP 0 rfl rfl 4 (by decide) (hts _ q217) (fun _ h9 => h9) rfl dX1_step_33 ?_
      refine lv_if_ne (tgt := 52) hx hb dX1_step_36 (by decide) (fun c_2 => ?_) (fun c_2 => ?_)
      · have ev : runG (n + 1) v k = (v, k) := if_neg c_2
        rw [ev] at kk
        exact kk _ _ _ hP hD hS (lv_sub hl [1, 3] rfl)
      · refine lv_aload_n hx hb dX1_step_39 rfl (lv_at hl 3 rfl) ?_
        refine wc_1 (As := []) (rest := []) ⟨hx, hb, hml, hown, hts⟩ hA (fun sz => met1_execute l dC dI g0 pr pm d sz v) (cwV 0 hts (lw_V q261 q263 qs14 q24 q264) rfl rfl rfl (by decide +kernel) hR) hK hP hD hS rfl rfl hl.1 (Nat.le_of_ble_eq_true rfl) dX1_step_40 ⟨Nat.zero_le _, Nat.zero_le _⟩ (fun H locs hP hD hS => ?_)
        have ev : runG (n + 1) v k = runG n (exeF v) (k + 1) := if_pos c_2
        rw [ev] at kk
        refine lv_iinc (v := nI (k + 1)) (lv' := [(3, .int (nI (k + 1))), (4, .int (nI k)), (2, .int (nI w)), (0, .ref g0), (1, .int x1)]) hx hb dX1_step_43 hl (k := 1) rfl (nI_1 k) (by decide) rfl (fun ls hl => ?_)
        refine lv_iinc (v := nI (k + 1)) (lv' := [(4, .int (nI (k + 1))), (3, .int (nI (k + 1))), (2, .int (nI w)), (0, .ref g0), (1, .int x1)]) hx hb dX1_step_46 hl (k := 1) rfl (nI_1 k) (by decide) rfl (fun ls hl => ?_)
        refine lv_goto (tgt := 26) hx hb dX1_step_49 (by decide) ?_
        exact ih (k + 1) (exeF v) _ _ _ (by omega) hP hD hS hl kk
set_option maxHeartbeats 4000000 in
set_option maxRecDepth 100000 in
theorem met1_step (l : Launch) (dC : Nat → ClassId) (dI : Nat → Nat → Nat) (g0 pr pm : Nat) (d : ClassId) (sz : Nat) (v : mc_S1) (a : Int32) : Met l yX1_step (ws_ yX1_step cX1_step 5 (some .int)) ({ frames := 4, cells := 0, slots := 0, locals := 94 }) (va_Pc [.ref g0, .int a] (mc_P1 dC dI g0 pr pm d sz v)) (va_Qi (fun (r : Int32) (v' : mc_S1) => r = nI (stepG a v).2 ∧ v' = putt_ex (stepG a v).1 (t_ex (stepG a v).1 + nI (stepG a v).2)) (mc_B1 dC dI (va_A (mc_W1 g0 pr pm d v) sz) g0 pr pm d) (va_A (mc_W1 g0 pr pm d v) sz)) 0 0 (va_A (mc_W1 g0 pr pm d v) sz) := by
  refine Met.ofW (cc := cX1_step) (maxL := 5) (ret := (some .int)) (by decide) rfl ?_
  intro p e s m args below meth c s₁ B hml hv
  obtain ⟨rfl, hsz, hP, hK, hD0⟩ := hv
  have hx := B.exec
  have hb := B.bytes
  have hr := B.returns
  have hts := atoms_spec (ws := (ws_ yX1_step cX1_step 5 (some .int))) B.pre
  have hts : ∀ w ∈ lw_all, w.before _ s = true := fun w h => hts w (List.mem_cons_of_mem _ h)
  have hown : s.vm.findClass RX1 = some m.cls := findClass_of_methodNamed B.named
  have hlocks := B.notSynchronized
  subst hsz
  have hD := hD0.self (sz := s.heap.size)
  generalize hAe : va_A (mc_W1 g0 pr pm d v) s.heap.size = A at hD ⊢
  have hA : ∀ q : Nat, s.heap.size ≤ q → A q := fun q h => by rw [← hAe]; exact Or.inr h
  have hS : va_S A s.heap s.heap [] := va_S.rf
  have hP : va_P (dC, dI) vwCl (mc_W1 g0 pr pm d v) s.heap := hP
  have hl := lv_entry ([.ref g0, .int a]) (n := 5) (Nat.le_of_ble_eq_true rfl)
  rw [lg_entry_eq]
  generalize (lg_sl ([.ref g0, .int a]) ++ List.replicate (5 - (lg_sl ([.ref g0, .int a])).length) Slot.unset).toArray = ls at hl ⊢
  have hl : lv_has ls 5 [(0, .ref g0), (1, .int a)] := hl
  have j20 : ∀ x : Int32, x = nI (wantF a) → W p l e (headSpec (ws_ yX1_step cX1_step 5 (some .int)) ({ frames := 4, cells := 0, slots := 0, locals := 94 })).room s m ([.ref g0, .int a]).toArray below meth c s.heap [] 0 0 (MQ below (va_Qi (fun (r : Int32) (v' : mc_S1) => r = nI (stepG a v).2 ∧ v' = putt_ex (stepG a v).1 (t_ex (stepG a v).1 + nI (stepG a v).2)) (mc_B1 dC dI A g0 pr pm d) A) ([.ref g0, .int a]).toArray s 0 0 A) (F0 m 20 ls [.int x]) := by
    intro x ev
    subst ev
    refine lv_istore_n (lv' := [(2, .int (nI (wantF a))), (0, .ref g0), (1, .int a)]) hx hb dX1_step_20 rfl hl (by decide) rfl (fun ls hl => ?_)
    refine lv_iconst (v := 0) hx hb dX1_step_21 (by decide) ?_
    refine lv_istore_n (lv' := [(3, .int (nI 0)), (2, .int (nI (wantF a))), (0, .ref g0), (1, .int a)]) hx hb dX1_step_22 rfl hl (by decide) rfl (fun ls hl => ?_)
    refine lv_iconst (v := 0) hx hb dX1_step_23 (by decide) ?_
    refine lv_istore (lv' := [(4, .int (nI 0)), (3, .int (nI 0)), (2, .int (nI (wantF a))), (0, .ref g0), (1, .int a)]) hx hb dX1_step_24 hl (by decide) rfl (fun ls hl => ?_)
    refine step1_out hx hb hml hown hts ⟨Nat.le_of_ble_eq_true rfl, Nat.le_of_ble_eq_true rfl⟩ hA hK (want_le a) (wantF a) 0 v _ _ _ (by omega) hP hD hS hl (fun H locs ls hP hD hS hl => ?_)
    refine lv_aload_n hx hb dX1_step_52 rfl (lv_at hl 1 rfl) ?_
    refine lv_dup hx hb dX1_step_53 rfl ?_
    refine va_get (D := (dC, dI)) (ci := 1) (v := .int (t_ex ((runG (wantF a) v 0).1))) (C := RX1) (T := TX1) (N := 6) hx hb hts in_X1 hown hK hP 0 rfl rfl 5 (by decide) (hts _ q218) (fun _ h9 => h9) rfl dX1_step_54 ?_
    refine lv_iload_n hx hb dX1_step_57 rfl (lv_at hl 0 rfl) ?_
    refine lv_iadd hx hb dX1_step_58 ?_
    refine va_put (D := (dC, dI)) (ci := 1) (v := .int ((t_ex ((runG (wantF a) v 0).1)) + (nI (runG (wantF a) v 0).2))) (ty := .int) (C := RX1) (T := TX1) (N := 6) hx hb hts in_X1 tyX1 tyX1_ok nmX1 hown hK hP hD hS 0 rfl rfl 5 (by decide) (hts _ q218) (fun _ h9 => h9) rfl (by decide +kernel) rfl rfl (Nat.le_of_ble_eq_true rfl) dX1_step_59 (fun H locs hP hD hS => ?_)
    have hP : va_P (dC, dI) vwCl (mc_W1 g0 pr pm d (putt_ex ((runG (wantF a) v 0).1) ((t_ex ((runG (wantF a) v 0).1)) + (nI (runG (wantF a) v 0).2)))) H := hP
    have hD : va_D A (mc_W1 g0 pr pm d (putt_ex ((runG (wantF a) v 0).1) ((t_ex ((runG (wantF a) v 0).1)) + (nI (runG (wantF a) v 0).2)))) := hD
    refine lv_iload_n hx hb dX1_step_62 rfl (lv_at hl 0 rfl) ?_
    exact W.iret (v := nI (runG (wantF a) v 0).2) hx hb hr (fun t ht hW => ⟨⟨nI (runG (wantF a) v 0).2, (putt_ex ((runG (wantF a) v 0).1) ((t_ex ((runG (wantF a) v 0).1)) + (nI (runG (wantF a) v 0).2))), rfl, ⟨rfl, rfl⟩, by rw [ht]; exact hP, va_K.moved hW.alike hK, hD⟩, hS.F ht⟩) hS.2.2 dX1_step_63
  refine lv_iload_n hx hb dX1_step_0 rfl (lv_at hl 1 rfl) ?_
  refine lv_if_ge (tgt := 8) hx hb dX1_step_1 (by decide) (fun c_1 => ?_) (fun c_1 => ?_)
  · refine lv_iload_n hx hb dX1_step_8 rfl (lv_at hl 1 rfl) ?_
    refine lv_bipush (v := 100) hx hb dX1_step_9 (by decide) ?_
    refine lv_icmp_le (tgt := 19) hx hb dX1_step_11 (by decide) (fun c_2 => ?_) (fun c_2 => ?_)
    · refine lv_iload_n hx hb dX1_step_19 rfl (lv_at hl 1 rfl) ?_
      exact j20 _ (want_mid c_1 c_2)
    · refine lv_bipush (v := 100) hx hb dX1_step_14 (by decide) ?_
      refine lv_goto (tgt := 20) hx hb dX1_step_16 (by decide) ?_
      exact j20 _ (by unfold wantF; rw [if_pos c_1, if_neg c_2]; rfl)
  · refine lv_iconst (v := 0) hx hb dX1_step_4 (by decide) ?_
    refine lv_goto (tgt := 20) hx hb dX1_step_5 (by decide) ?_
    exact j20 _ (by unfold wantF; rw [if_neg c_1]; rfl)
def mc_v0 : mc_S1 := (fun _ => 0, fun _ => 0, 0, 0, 0, 0)
set_option maxHeartbeats 4000000 in
set_option maxRecDepth 100000 in
theorem met1_init (l : Launch) (dC : Nat → ClassId) (dI : Nat → Nat → Nat) (g0 sz : Nat) : Met l yX1_init (ws_ yX1_init cX1_init 1 none) ({ frames := 1, cells := 2, slots := 72, locals := 12 }) (va_Pc [.ref g0] (fun U => U.heap.size = sz ∧ va_P (dC, dI) vwCl [(g0, .inr (1, [.null, .null, .int 0, .int 0, .int 0, .int 0]))] U.heap ∧ va_K (dC, dI) vwCl [] U ∧ va_D (fun _ => True) [(g0, .inr (1, [.null, .null, .int 0, .int 0, .int 0, .int 0]))])) (va_Qv (fun _ : Unit => True) (fun _ t => ∃ (pr pm : Nat) (d : ClassId), mc_B1 dC dI (va_A [(g0, .inr (1, [.null, .null, .int 0, .int 0, .int 0, .int 0]))] sz) g0 pr pm d mc_v0 t) (va_A [(g0, .inr (1, [.null, .null, .int 0, .int 0, .int 0, .int 0]))] sz)) 2 72 (va_A [(g0, .inr (1, [.null, .null, .int 0, .int 0, .int 0, .int 0]))] sz) := by
  refine Met.ofW (cc := cX1_init) (maxL := 1) (ret := none) (by decide) rfl ?_
  intro p e s m args below meth c s₁ B hml hv
  obtain ⟨rfl, hsz, hP, hK, hD0⟩ := hv
  have hx := B.exec
  have hb := B.bytes
  have hr := B.returns
  have hts := atoms_spec (ws := (ws_ yX1_init cX1_init 1 none)) B.pre
  have hts : ∀ w ∈ lw_all, w.before _ s = true := fun w h => hts w (List.mem_cons_of_mem _ h)
  have hown : s.vm.findClass RX1 = some m.cls := findClass_of_methodNamed B.named
  have hlocks := B.notSynchronized
  subst hsz
  have hD := hD0.self (sz := s.heap.size)
  generalize hAe : va_A [(g0, .inr (1, [.null, .null, .int 0, .int 0, .int 0, .int 0]))] s.heap.size = A at hD ⊢
  have hA : ∀ q : Nat, s.heap.size ≤ q → A q := fun q h => by rw [← hAe]; exact Or.inr h
  have hS : va_S A s.heap s.heap [] := va_S.rf
  have hP : va_P (dC, dI) vwCl [(g0, .inr (1, [.null, .null, .int 0, .int 0, .int 0, .int 0]))] s.heap := hP
  have hl := lv_entry ([.ref g0]) (n := 1) (Nat.le_of_ble_eq_true rfl)
  rw [lg_entry_eq]
  generalize (lg_sl ([.ref g0]) ++ List.replicate (1 - (lg_sl ([.ref g0])).length) Slot.unset).toArray = ls at hl ⊢
  have hl : lv_has ls 1 [(0, .ref g0)] := hl
  refine lv_aload_n hx hb dX1_init_0 rfl (lv_at hl 0 rfl) ?_
  refine W.objInit hx hb hown (hts _ q212) (hts _ q31) (hts _ q32) rfl (by rw [hml]; exact hl.1) rfl dX1_init_1 (Nat.le_of_ble_eq_true rfl) (Nat.le_of_ble_eq_true rfl) ?_
  refine W.eq (g2 := F0 m 4 ls []) rfl ?_
  refine lv_aload_n hx hb dX1_init_4 rfl (lv_at hl 0 rfl) ?_
  refine lv_bipush (v := 8) hx hb dX1_init_5 (by decide) ?_
  refine va_newa (atype := .int) hx hb (hts _ q109) (ty := .int) rfl hK hP hD hS hA (n := 8) (N' := 8) (a0 := (8, .inl (fun _ => 0))) (fun cA => rfl) (by decide) (by decide) (by decide) (Nat.le_of_ble_eq_true rfl) (Nat.le_of_ble_eq_true rfl) dX1_init_7 (fun pr d1 H hK hP hD hS => ?_)
  have hP : va_P (dC, dI) vwCl [(g0, .inr (1, [.null, .null, .int 0, .int 0, .int 0, .int 0])), (pr, .inl (d1, 8, .inl (fun _ => 0)))] H := hP
  have hD : va_D A [(g0, .inr (1, [.null, .null, .int 0, .int 0, .int 0, .int 0])), (pr, .inl (d1, 8, .inl (fun _ => 0)))] := hD
  refine W.widen (k := 1) (n := 8) (by decide) (by decide) ?_
  refine va_put (D := (dC, dI)) (ci := 1) (v := .ref pr) (ty := .array .int) (C := RX1) (T := TX1) (N := 6) hx hb hts in_X1 tyX1 tyX1_ok nmX1 hown hK hP hD hS 0 rfl rfl 0 (by decide) (hts _ q213) (fun _ h9 => h9) rfl (by decide +kernel) rfl rfl (Nat.le_of_ble_eq_true rfl) dX1_init_9 (fun H locs hP hD hS => ?_)
  have hP : va_P (dC, dI) vwCl [(g0, .inr (1, [.ref pr, .null, .int 0, .int 0, .int 0, .int 0])), (pr, .inl (d1, 8, .inl (fun _ => 0)))] H := hP
  have hD : va_D A [(g0, .inr (1, [.ref pr, .null, .int 0, .int 0, .int 0, .int 0])), (pr, .inl (d1, 8, .inl (fun _ => 0)))] := hD
  refine lv_aload_n hx hb dX1_init_12 rfl (lv_at hl 0 rfl) ?_
  refine lv_bipush (v := 64) hx hb dX1_init_13 (by decide) ?_
  refine va_newa (atype := .int) hx hb (hts _ q109) (ty := .int) rfl hK hP hD hS hA (n := 64) (N' := 64) (a0 := (64, .inl (fun _ => 0))) (fun cA => rfl) (by decide) (by decide) (by decide) (Nat.le_of_ble_eq_true rfl) (Nat.le_of_ble_eq_true rfl) dX1_init_15 (fun pm d2 H hK hP hD hS => ?_)
  have hP : va_P (dC, dI) vwCl [(g0, .inr (1, [.ref pr, .null, .int 0, .int 0, .int 0, .int 0])), (pr, .inl (d1, 8, .inl (fun _ => 0))), (pm, .inl (d2, 64, .inl (fun _ => 0)))] H := hP
  have hD : va_D A [(g0, .inr (1, [.ref pr, .null, .int 0, .int 0, .int 0, .int 0])), (pr, .inl (d1, 8, .inl (fun _ => 0))), (pm, .inl (d2, 64, .inl (fun _ => 0)))] := hD
  refine W.widen (k := 2) (n := 72) (by decide) (by decide) ?_
  refine va_put (D := (dC, dI)) (ci := 1) (v := .ref pm) (ty := .array .int) (C := RX1) (T := TX1) (N := 6) hx hb hts in_X1 tyX1 tyX1_ok nmX1 hown hK hP hD hS 0 rfl rfl 1 (by decide) (hts _ q214) (fun _ h9 => h9) rfl (by decide +kernel) rfl rfl (Nat.le_of_ble_eq_true rfl) dX1_init_17 (fun H locs hP hD hS => ?_)
  have hP : va_P (dC, dI) vwCl [(g0, .inr (1, [.ref pr, .ref pm, .int 0, .int 0, .int 0, .int 0])), (pr, .inl (d1, 8, .inl (fun _ => 0))), (pm, .inl (d2, 64, .inl (fun _ => 0)))] H := hP
  have hD : va_D A [(g0, .inr (1, [.ref pr, .ref pm, .int 0, .int 0, .int 0, .int 0])), (pr, .inl (d1, 8, .inl (fun _ => 0))), (pm, .inl (d2, 64, .inl (fun _ => 0)))] := hD
  have e2 : d1 = d2 := mc_same (i := 0) (j := 1) hK rfl rfl
  subst e2
  have hK : va_K (dC, dI) vwCl [(d1, .int)] s := hK.sub [0] rfl
  refine lv_aload_n hx hb dX1_init_20 rfl (lv_at hl 0 rfl) ?_
  refine lv_iconst (v := 0) hx hb dX1_init_21 (by decide) ?_
  refine va_put (D := (dC, dI)) (ci := 1) (v := .int 0) (ty := .int) (C := RX1) (T := TX1) (N := 6) hx hb hts in_X1 tyX1 tyX1_ok nmX1 hown hK hP hD hS 0 rfl rfl 2 (by decide) (hts _ q215) (fun _ h9 => h9) rfl (by decide +kernel) rfl rfl (Nat.le_of_ble_eq_true rfl) dX1_init_22 (fun H locs hP hD hS => ?_)
  have hP : va_P (dC, dI) vwCl (mc_W1 g0 pr pm d1 mc_v0) H := hP
  have hD : va_D A (mc_W1 g0 pr pm d1 mc_v0) := hD
  refine lv_aload_n hx hb dX1_init_25 rfl (lv_at hl 0 rfl) ?_
  refine lv_iconst (v := 0) hx hb dX1_init_26 (by decide) ?_
  refine va_put (D := (dC, dI)) (ci := 1) (v := .int 0) (ty := .int) (C := RX1) (T := TX1) (N := 6) hx hb hts in_X1 tyX1 tyX1_ok nmX1 hown hK hP hD hS 0 rfl rfl 3 (by decide) (hts _ q216) (fun _ h9 => h9) rfl (by decide +kernel) rfl rfl (Nat.le_of_ble_eq_true rfl) dX1_init_27 (fun H locs hP hD hS => ?_)
  have hP : va_P (dC, dI) vwCl (mc_W1 g0 pr pm d1 mc_v0) H := hP
  have hD : va_D A (mc_W1 g0 pr pm d1 mc_v0) := hD
  refine lv_aload_n hx hb dX1_init_30 rfl (lv_at hl 0 rfl) ?_
  refine lv_iconst (v := 0) hx hb dX1_init_31 (by decide) ?_
  refine va_put (D := (dC, dI)) (ci := 1) (v := .int 0) (ty := .int) (C := RX1) (T := TX1) (N := 6) hx hb hts in_X1 tyX1 tyX1_ok nmX1 hown hK hP hD hS 0 rfl rfl 4 (by decide) (hts _ q217) (fun _ h9 => h9) rfl (by decide +kernel) rfl rfl (Nat.le_of_ble_eq_true rfl) dX1_init_32 (fun H locs hP hD hS => ?_)
  have hP : va_P (dC, dI) vwCl (mc_W1 g0 pr pm d1 mc_v0) H := hP
  have hD : va_D A (mc_W1 g0 pr pm d1 mc_v0) := hD
  refine lv_aload_n hx hb dX1_init_35 rfl (lv_at hl 0 rfl) ?_
  refine lv_iconst (v := 0) hx hb dX1_init_36 (by decide) ?_
  refine va_put (D := (dC, dI)) (ci := 1) (v := .int 0) (ty := .int) (C := RX1) (T := TX1) (N := 6) hx hb hts in_X1 tyX1 tyX1_ok nmX1 hown hK hP hD hS 0 rfl rfl 5 (by decide) (hts _ q218) (fun _ h9 => h9) rfl (by decide +kernel) rfl rfl (Nat.le_of_ble_eq_true rfl) dX1_init_37 (fun H locs hP hD hS => ?_)
  have hP : va_P (dC, dI) vwCl (mc_W1 g0 pr pm d1 mc_v0) H := hP
  have hD : va_D A (mc_W1 g0 pr pm d1 mc_v0) := hD
  refine W.widen (k := 2) (n := 72) (by decide) (by decide) ?_
  exact W.vret hx hb hr (fun t ht hW => ⟨⟨(), rfl, trivial, pr, pm, d1, by rw [ht]; exact hP, va_K.moved hW.alike hK, hD⟩, hS.F ht⟩) hS.2.2 dX1_init_40
end
section
/-! What a cycle does, control state by control state -/
/-- signBits of what was loaded -/
def sgB (b : Int32) : Int32 := if b < 32768 then (if b = 0 then 2 else 1) else 4
def cy5s (g bus : Int32) (u : mc_S0) : mc_S0 := if hasF g 8192 = 0 then u else put_sg u (sgB bus)
theorem cy5_eq (g bus : Int32) (u : mc_S0) : cy5 g bus u = cy5s g bus u := by
  unfold cy5 cy5s sgB
  split
  · rfl
  · split
    · split
      · rfl
      · rfl
    · rfl
def cycT (g : Int32) (u : mc_S0) : mc_S0 := put_state (cy9 g (cy8 g (cy7 g (busF g (addF g u) u) (cy6 g (pciF g (busF g (addF g u) u) (addF g u) u) (cy5s g (busF g (addF g u) u) (cy4 g (busF g (addF g u) u) (cy3 g (busF g (addF g u) u) (s_mm u (s_mar u &&& 63).toNatClampNeg) (cy2 g (busF g (addF g u) u) (cy1 g u))))))))) (nextF g u)
theorem cycS_T (g : Int32) (u : mc_S0) : cycS g u = cycT g u := by
  unfold cycS cyL cycT
  rw [cy5_eq]
/-- the ALU's second source -/
def sec2 (rr : Nat → Int32) (ir : Int32) : Int32 := if (ir >>> ((5 : Int32) &&& 31)) &&& 1 = 0 then rr (ir &&& 7).toNatClampNeg else extF ir 5
set_option maxRecDepth 100000 in
theorem cs_18 (mm rr : Nat → Int32) (pc sg st ex mar mdr ir : Int32) : cyc ct0 (mm, rr, pc, sg, st, ex, 18, mar, mdr, ir) = (mm, rr, (pc + 1) &&& 65535, sg, st, ex, 33, pc, mdr, ir) := (cycS_T 18721 _).trans rfl
set_option maxRecDepth 100000 in
theorem cs_33 (mm rr : Nat → Int32) (pc sg st ex mar mdr ir : Int32) : cyc ct0 (mm, rr, pc, sg, st, ex, 33, mar, mdr, ir) = (mm, rr, pc, sg, st, ex, 35, mar, mm (mar &&& 63).toNatClampNeg, ir) := (cycS_T 67109411 _).trans rfl
set_option maxRecDepth 100000 in
theorem cs_35 (mm rr : Nat → Int32) (pc sg st ex mar mdr ir : Int32) : cyc ct0 (mm, rr, pc, sg, st, ex, 35, mar, mdr, ir) = (mm, rr, pc, sg, st, ex, 32, mar, mdr, mdr) := (cycS_T 33824 _).trans rfl
set_option maxRecDepth 100000 in
theorem cs_32 (mm rr : Nat → Int32) (pc sg st ex mar mdr ir : Int32) : cyc ct0 (mm, rr, pc, sg, st, ex, 32, mar, mdr, ir) = (mm, rr, pc, sg, st, ex, ir >>> ((12 : Int32) &&& 31), mar, mdr, ir) := (cycS_T 64 _).trans rfl
set_option maxRecDepth 100000 in
theorem cs_1 (mm rr : Nat → Int32) (pc sg st ex mar mdr ir : Int32) : cyc ct0 (mm, rr, pc, sg, st, ex, 1, mar, mdr, ir) = (mm, upd rr (d_of ir).toNatClampNeg ((rr (s_of ir).toNatClampNeg + sec2 rr ir) &&& 65535), pc, sgB ((rr (s_of ir).toNatClampNeg + sec2 rr ir) &&& 65535), st, ex, 18, mar, mdr, ir) := (cycS_T 61458 _).trans rfl
set_option maxRecDepth 100000 in
theorem cs_5 (mm rr : Nat → Int32) (pc sg st ex mar mdr ir : Int32) : cyc ct0 (mm, rr, pc, sg, st, ex, 5, mar, mdr, ir) = (mm, upd rr (d_of ir).toNatClampNeg (rr (s_of ir).toNatClampNeg &&& sec2 rr ir), pc, sgB (rr (s_of ir).toNatClampNeg &&& sec2 rr ir), st, ex, 18, mar, mdr, ir) := (cycS_T 16838674 _).trans rfl
set_option maxRecDepth 100000 in
theorem cs_9 (mm rr : Nat → Int32) (pc sg st ex mar mdr ir : Int32) : cyc ct0 (mm, rr, pc, sg, st, ex, 9, mar, mdr, ir) = (mm, upd rr (d_of ir).toNatClampNeg ((rr (s_of ir).toNatClampNeg ^^^ (-1)) &&& 65535), pc, sgB ((rr (s_of ir).toNatClampNeg ^^^ (-1)) &&& 65535), st, ex, 18, mar, mdr, ir) := (cycS_T 33615890 _).trans rfl
set_option maxRecDepth 100000 in
theorem cs_14 (mm rr : Nat → Int32) (pc sg st ex mar mdr ir : Int32) : cyc ct0 (mm, rr, pc, sg, st, ex, 14, mar, mdr, ir) = (mm, upd rr (d_of ir).toNatClampNeg ((pc + extF ir 9) &&& 65535), pc, sgB ((pc + extF ir 9) &&& 65535), st, ex, 18, mar, mdr, ir) := (cycS_T 8466450 _).trans rfl
set_option maxRecDepth 100000 in
theorem cs_2 (mm rr : Nat → Int32) (pc sg st ex mar mdr ir : Int32) : cyc ct0 (mm, rr, pc, sg, st, ex, 2, mar, mdr, ir) = (mm, rr, pc, sg, st, ex, 25, (pc + extF ir 9) &&& 65535, mdr, ir) := (cycS_T 8454425 _).trans rfl
set_option maxRecDepth 100000 in
theorem cs_6 (mm rr : Nat → Int32) (pc sg st ex mar mdr ir : Int32) : cyc ct0 (mm, rr, pc, sg, st, ex, 6, mar, mdr, ir) = (mm, rr, pc, sg, st, ex, 25, (rr (s_of ir).toNatClampNeg + extF ir 6) &&& 65535, mdr, ir) := (cycS_T 6357273 _).trans rfl
set_option maxRecDepth 100000 in
theorem cs_10 (mm rr : Nat → Int32) (pc sg st ex mar mdr ir : Int32) : cyc ct0 (mm, rr, pc, sg, st, ex, 10, mar, mdr, ir) = (mm, rr, pc, sg, st, ex, 24, (pc + extF ir 9) &&& 65535, mdr, ir) := (cycS_T 8454424 _).trans rfl
set_option maxRecDepth 100000 in
theorem cs_24 (mm rr : Nat → Int32) (pc sg st ex mar mdr ir : Int32) : cyc ct0 (mm, rr, pc, sg, st, ex, 24, mar, mdr, ir) = (mm, rr, pc, sg, st, ex, 26, mar, mm (mar &&& 63).toNatClampNeg, ir) := (cycS_T 67109402 _).trans rfl
set_option maxRecDepth 100000 in
theorem cs_26 (mm rr : Nat → Int32) (pc sg st ex mar mdr ir : Int32) : cyc ct0 (mm, rr, pc, sg, st, ex, 26, mar, mdr, ir) = (mm, rr, pc, sg, st, ex, 25, mdr, mdr, ir) := (cycS_T 33049 _).trans rfl
set_option maxRecDepth 100000 in
theorem cs_25 (mm rr : Nat → Int32) (pc sg st ex mar mdr ir : Int32) : cyc ct0 (mm, rr, pc, sg, st, ex, 25, mar, mdr, ir) = (mm, rr, pc, sg, st, ex, 27, mar, mm (mar &&& 63).toNatClampNeg, ir) := (cycS_T 67109403 _).trans rfl
set_option maxRecDepth 100000 in
theorem cs_27 (mm rr : Nat → Int32) (pc sg st ex mar mdr ir : Int32) : cyc ct0 (mm, rr, pc, sg, st, ex, 27, mar, mdr, ir) = (mm, upd rr (d_of ir).toNatClampNeg (mdr), pc, sgB (mdr), st, ex, 18, mar, mdr, ir) := (cycS_T 45074 _).trans rfl
set_option maxRecDepth 100000 in
theorem cs_3 (mm rr : Nat → Int32) (pc sg st ex mar mdr ir : Int32) : cyc ct0 (mm, rr, pc, sg, st, ex, 3, mar, mdr, ir) = (mm, rr, pc, sg, st, ex, 23, (pc + extF ir 9) &&& 65535, mdr, ir) := (cycS_T 8454423 _).trans rfl
set_option maxRecDepth 100000 in
theorem cs_7 (mm rr : Nat → Int32) (pc sg st ex mar mdr ir : Int32) : cyc ct0 (mm, rr, pc, sg, st, ex, 7, mar, mdr, ir) = (mm, rr, pc, sg, st, ex, 23, (rr (s_of ir).toNatClampNeg + extF ir 6) &&& 65535, mdr, ir) := (cycS_T 6357271 _).trans rfl
set_option maxRecDepth 100000 in
theorem cs_11 (mm rr : Nat → Int32) (pc sg st ex mar mdr ir : Int32) : cyc ct0 (mm, rr, pc, sg, st, ex, 11, mar, mdr, ir) = (mm, rr, pc, sg, st, ex, 29, (pc + extF ir 9) &&& 65535, mdr, ir) := (cycS_T 8454429 _).trans rfl
set_option maxRecDepth 100000 in
theorem cs_29 (mm rr : Nat → Int32) (pc sg st ex mar mdr ir : Int32) : cyc ct0 (mm, rr, pc, sg, st, ex, 29, mar, mdr, ir) = (mm, rr, pc, sg, st, ex, 31, mar, mm (mar &&& 63).toNatClampNeg, ir) := (cycS_T 67109407 _).trans rfl
set_option maxRecDepth 100000 in
theorem cs_31 (mm rr : Nat → Int32) (pc sg st ex mar mdr ir : Int32) : cyc ct0 (mm, rr, pc, sg, st, ex, 31, mar, mdr, ir) = (mm, rr, pc, sg, st, ex, 23, mdr, mdr, ir) := (cycS_T 33047 _).trans rfl
set_option maxRecDepth 100000 in
theorem cs_23 (mm rr : Nat → Int32) (pc sg st ex mar mdr ir : Int32) : cyc ct0 (mm, rr, pc, sg, st, ex, 23, mar, mdr, ir) = (mm, rr, pc, sg, st, ex, 16, mar, rr (d_of ir).toNatClampNeg, ir) := (cycS_T 51429904 _).trans rfl
set_option maxRecDepth 100000 in
theorem cs_16 (mm rr : Nat → Int32) (pc sg st ex mar mdr ir : Int32) : cyc ct0 (mm, rr, pc, sg, st, ex, 16, mar, mdr, ir) = (upd mm (mar &&& 63).toNatClampNeg mdr, rr, pc, sg, st, ex, 18, mar, mdr, ir) := (cycS_T 134217746 _).trans rfl
set_option maxRecDepth 100000 in
theorem cs_0 (mm rr : Nat → Int32) (pc sg st ex mar mdr ir : Int32) : cyc ct0 (mm, rr, pc, sg, st, ex, 0, mar, mdr, ir) = (mm, rr, pc, sg, st, ex, (if (ir >>> ((9 : Int32) &&& 31)) &&& sg = 0 then 18 else 22), mar, mdr, ir) := (cycS_T 146 _).trans rfl
set_option maxRecDepth 100000 in
theorem cs_22 (mm rr : Nat → Int32) (pc sg st ex mar mdr ir : Int32) : cyc ct0 (mm, rr, pc, sg, st, ex, 22, mar, mdr, ir) = (mm, rr, (pc + extF ir 9) &&& 65535, sg, st, ex, 18, mar, mdr, ir) := (cycS_T 8652818 _).trans rfl
set_option maxRecDepth 100000 in
theorem cs_12 (mm rr : Nat → Int32) (pc sg st ex mar mdr ir : Int32) : cyc ct0 (mm, rr, pc, sg, st, ex, 12, mar, mdr, ir) = (mm, rr, (rr (s_of ir).toNatClampNeg + 0) &&& 65535, sg, st, ex, 18, mar, mdr, ir) := (cycS_T 2361362 _).trans rfl
set_option maxRecDepth 100000 in
theorem cs_4 (mm rr : Nat → Int32) (pc sg st ex mar mdr ir : Int32) : cyc ct0 (mm, rr, pc, sg, st, ex, 4, mar, mdr, ir) = (mm, rr, pc, sg, st, ex, 20 ||| ((ir >>> ((11 : Int32) &&& 31)) &&& 1), mar, mdr, ir) := (cycS_T 212 _).trans rfl
set_option maxRecDepth 100000 in
theorem cs_20 (mm rr : Nat → Int32) (pc sg st ex mar mdr ir : Int32) : cyc ct0 (mm, rr, pc, sg, st, ex, 20, mar, mdr, ir) = (mm, upd rr 7 pc, (rr (s_of ir).toNatClampNeg + 0) &&& 65535, sg, st, ex, 18, mar, mdr, ir) := (cycS_T 2906130 _).trans rfl
set_option maxRecDepth 100000 in
theorem cs_21 (mm rr : Nat → Int32) (pc sg st ex mar mdr ir : Int32) : cyc ct0 (mm, rr, pc, sg, st, ex, 21, mar, mdr, ir) = (mm, upd rr 7 pc, (pc + extF ir 11) &&& 65535, sg, st, ex, 18, mar, mdr, ir) := (cycS_T 13391890 _).trans rfl
set_option maxRecDepth 100000 in
theorem cs_15 (mm rr : Nat → Int32) (pc sg st ex mar mdr ir : Int32) : cyc ct0 (mm, rr, pc, sg, st, ex, 15, mar, mdr, ir) = (mm, rr, pc, sg, 1, ex, 18, mar, mdr, ir) := (cycS_T 268435474 _).trans rfl
set_option maxRecDepth 100000 in
theorem cs_8 (mm rr : Nat → Int32) (pc sg st ex mar mdr ir : Int32) : cyc ct0 (mm, rr, pc, sg, st, ex, 8, mar, mdr, ir) = (mm, rr, pc, sg, 2, ex, 18, mar, mdr, ir) := (cycS_T 536870930 _).trans rfl
set_option maxRecDepth 100000 in
theorem cs_13 (mm rr : Nat → Int32) (pc sg st ex mar mdr ir : Int32) : cyc ct0 (mm, rr, pc, sg, st, ex, 13, mar, mdr, ir) = (mm, rr, pc, sg, 2, ex, 18, mar, mdr, ir) := (cycS_T 536870930 _).trans rfl
end
section
/-! Plain arithmetic: 'extended' and 'signed' say the same modulo 2^16; signs; bits -/
theorem ar_low (a s : Int32) : (a + (s &&& 65535)) &&& 65535 = (a + s) &&& 65535 := by
  rw [pk_and (a + (s &&& 65535)) (m := 65535) 16 (by decide), pk_and (a + s) (m := 65535) 16 (by decide)]
  congr 1
  have h1 : (s &&& 65535).toBitVec.toNat = s.toBitVec.toNat % 65536 := by
    rw [pk_and s (m := 65535) 16 (by decide), pk_tn (by omega)]
  have h2 : (a + (s &&& 65535)).toBitVec.toNat = (a.toBitVec.toNat + (s &&& 65535).toBitVec.toNat) % 4294967296 := BitVec.toNat_add _ _
  have h3 : (a + s).toBitVec.toNat = (a.toBitVec.toNat + s.toBitVec.toNat) % 4294967296 := BitVec.toNat_add _ _
  rw [h2, h3, h1]
  omega
theorem ar_not (a : Int32) : (a ^^^ (-1)) &&& 65535 = (65535 - a) &&& 65535 := by
  have e : (65535 : Int32) - a = (-a - 1) + 65536 := by grind
  rw [Int32.xor_neg_one, Int32.not_eq_neg_add, e, ← ar_low (-a - 1) 65536]
  have z : (65536 : Int32) &&& 65535 = 0 := by decide
  rw [z, Int32.add_zero]
theorem ar_63 (x : Int32) : (x &&& 65535) &&& 63 = x &&& 63 := by
  rw [Int32.and_assoc]
  congr 1
theorem tab_5 : ∀ r, r < 32 → (if (nI r >>> (((5 : Int32) - 1) &&& 31)) &&& 1 = 0 then nI r else nI r ||| (65535 &&& ((((1 : Int32) <<< ((5 : Int32) &&& 31)) - 1) ^^^ (-1)))) = (if nI r < (1 : Int32) <<< (((5 : Int32) - 1) &&& 31) then nI r else nI r - ((1 : Int32) <<< ((5 : Int32) &&& 31))) &&& 65535 := by decide +kernel
theorem tab_6 : ∀ r, r < 64 → (if (nI r >>> (((6 : Int32) - 1) &&& 31)) &&& 1 = 0 then nI r else nI r ||| (65535 &&& ((((1 : Int32) <<< ((6 : Int32) &&& 31)) - 1) ^^^ (-1)))) = (if nI r < (1 : Int32) <<< (((6 : Int32) - 1) &&& 31) then nI r else nI r - ((1 : Int32) <<< ((6 : Int32) &&& 31))) &&& 65535 := by decide +kernel
theorem tab_9 : ∀ r, r < 512 → (if (nI r >>> (((9 : Int32) - 1) &&& 31)) &&& 1 = 0 then nI r else nI r ||| (65535 &&& ((((1 : Int32) <<< ((9 : Int32) &&& 31)) - 1) ^^^ (-1)))) = (if nI r < (1 : Int32) <<< (((9 : Int32) - 1) &&& 31) then nI r else nI r - ((1 : Int32) <<< ((9 : Int32) &&& 31))) &&& 65535 := by decide +kernel
set_option maxRecDepth 100000 in
theorem tab_11 : ∀ r, r < 2048 → (if (nI r >>> (((11 : Int32) - 1) &&& 31)) &&& 1 = 0 then nI r else nI r ||| (65535 &&& ((((1 : Int32) <<< ((11 : Int32) &&& 31)) - 1) ^^^ (-1)))) = (if nI r < (1 : Int32) <<< (((11 : Int32) - 1) &&& 31) then nI r else nI r - ((1 : Int32) <<< ((11 : Int32) &&& 31))) &&& 65535 := by decide +kernel
theorem ex_5 {w : Int32} (h : mc_W16 w) : extF w 5 = sgnF w 5 &&& 65535 := by
  obtain ⟨n, hn, rfl⟩ := w16_nI h
  have e1 : nI n &&& (((1 : Int32) <<< ((5 : Int32) &&& 31)) - 1) = nI (n % 32) := pk_andN (by omega) 5 (by decide)
  have e2 : nI n - nI n / ((1 : Int32) <<< ((5 : Int32) &&& 31)) * ((1 : Int32) <<< ((5 : Int32) &&& 31)) = nI (n % 32) := pk_rem (d := 32) (by omega) (by decide) (by decide)
  unfold extF sgnF
  rw [e1, e2]
  exact tab_5 _ (Nat.mod_lt _ (by decide))
theorem ex_6 {w : Int32} (h : mc_W16 w) : extF w 6 = sgnF w 6 &&& 65535 := by
  obtain ⟨n, hn, rfl⟩ := w16_nI h
  have e1 : nI n &&& (((1 : Int32) <<< ((6 : Int32) &&& 31)) - 1) = nI (n % 64) := pk_andN (by omega) 6 (by decide)
  have e2 : nI n - nI n / ((1 : Int32) <<< ((6 : Int32) &&& 31)) * ((1 : Int32) <<< ((6 : Int32) &&& 31)) = nI (n % 64) := pk_rem (d := 64) (by omega) (by decide) (by decide)
  unfold extF sgnF
  rw [e1, e2]
  exact tab_6 _ (Nat.mod_lt _ (by decide))
theorem ex_9 {w : Int32} (h : mc_W16 w) : extF w 9 = sgnF w 9 &&& 65535 := by
  obtain ⟨n, hn, rfl⟩ := w16_nI h
  have e1 : nI n &&& (((1 : Int32) <<< ((9 : Int32) &&& 31)) - 1) = nI (n % 512) := pk_andN (by omega) 9 (by decide)
  have e2 : nI n - nI n / ((1 : Int32) <<< ((9 : Int32) &&& 31)) * ((1 : Int32) <<< ((9 : Int32) &&& 31)) = nI (n % 512) := pk_rem (d := 512) (by omega) (by decide) (by decide)
  unfold extF sgnF
  rw [e1, e2]
  exact tab_9 _ (Nat.mod_lt _ (by decide))
theorem ex_11 {w : Int32} (h : mc_W16 w) : extF w 11 = sgnF w 11 &&& 65535 := by
  obtain ⟨n, hn, rfl⟩ := w16_nI h
  have e1 : nI n &&& (((1 : Int32) <<< ((11 : Int32) &&& 31)) - 1) = nI (n % 2048) := pk_andN (by omega) 11 (by decide)
  have e2 : nI n - nI n / ((1 : Int32) <<< ((11 : Int32) &&& 31)) * ((1 : Int32) <<< ((11 : Int32) &&& 31)) = nI (n % 2048) := pk_rem (d := 2048) (by omega) (by decide) (by decide)
  unfold extF sgnF
  rw [e1, e2]
  exact tab_11 _ (Nat.mod_lt _ (by decide))
/-- signBits and sign -/
def mc_sg (a b : Int32) : Prop := (a = 4 ∧ b = -1) ∨ (a = 2 ∧ b = 0) ∨ (a = 1 ∧ b = 1)
theorem sg_of {b : Int32} (h : mc_W16 b) : mc_sg (sgB b) (sgOf (sgnF b 16)) := by
  obtain ⟨n, hn, rfl⟩ := w16_nI h
  have e2 : nI n - nI n / ((1 : Int32) <<< ((16 : Int32) &&& 31)) * ((1 : Int32) <<< ((16 : Int32) &&& 31)) = nI n := by
    have e := pk_rem (a := n) (d := 65536) (by omega) (by decide) (by decide)
    rw [Nat.mod_eq_of_lt hn] at e
    exact e
  have e3 : (1 : Int32) <<< (((16 : Int32) - 1) &&& 31) = nI 32768 := by decide
  have e4 : (1 : Int32) <<< ((16 : Int32) &&& 31) = nI 65536 := by decide
  unfold sgnF
  rw [e2, e3, e4]
  by_cases hs : n < 32768
  · rw [if_pos (nI_lt hs (by decide))]
    unfold sgB sgOf
    rw [if_pos (show nI n < 32768 from nI_lt hs (by decide)), if_pos (nI_pos' (by omega))]
    by_cases hz : n = 0
    · subst hz
      exact Or.inr (Or.inl ⟨rfl, rfl⟩)
    · rw [if_neg (nI_ne0 (by omega) (by omega)), if_neg (nI_nle (by omega) (by omega))]
      exact Or.inr (Or.inr ⟨rfl, rfl⟩)
  · rw [if_neg (nI_nlt (by omega) (by omega))]
    unfold sgB sgOf
    rw [if_neg (show ¬ nI n < 32768 from nI_nlt (b := 32768) (by omega) (by omega)), if_neg (Int32.not_le.mpr (pk_sneg (by decide) (by omega)))]
    exact Or.inl ⟨rfl, rfl⟩
theorem tab_br : ∀ m, m < 128 → ((nI m &&& 4 = 0) ↔ ¬ (nI (m / 4) &&& 1 = 1)) ∧ ((nI m &&& 2 = 0) ↔ ¬ (nI (m / 2) &&& 1 = 1)) ∧ ((nI m &&& 1 = 0) ↔ ¬ (nI m &&& 1 = 1)) := by decide +kernel
theorem ite_01 {c : Prop} {d : Decidable c} : (@ite Int32 c d 1 0 = 0) ↔ ¬ c := by
  by_cases h : c
  · rw [if_pos h]
    exact ⟨fun e => absurd e (by decide), fun e => absurd h e⟩
  · rw [if_neg h]
    exact ⟨fun _ => h, fun _ => rfl⟩
theorem br_tak {w a : Int32} {v : mc_S1} (hw : mc_W16 w) (h : mc_sg a (t_sg v)) : ((w >>> ((9 : Int32) &&& 31)) &&& a = 0) ↔ takF w v = 0 := by
  obtain ⟨n, hn, rfl⟩ := w16_nI hw
  have e9 : nI n >>> ((9 : Int32) &&& 31) = nI (n / 512) := pk_shrN (by omega) _ 9 (by decide)
  have e10 : nI n >>> ((10 : Int32) &&& 31) = nI (n / 512 / 2) := by
    rw [pk_shrN (by omega) _ 10 (by decide), Nat.div_div_eq_div_mul]
  have e11 : nI n >>> ((11 : Int32) &&& 31) = nI (n / 512 / 4) := by
    rw [pk_shrN (by omega) _ 11 (by decide), Nat.div_div_eq_div_mul]
  obtain ⟨t4, t2, t1⟩ := tab_br (n / 512) (by omega)
  unfold takF
  rw [e9, e10, e11]
  rcases h with ⟨ha, hb⟩ | ⟨ha, hb⟩ | ⟨ha, hb⟩
  · rw [ha, hb, if_neg (by decide), ite_01]
    exact t4
  · rw [ha, hb, if_pos (by decide), if_pos rfl, ite_01]
    exact t2
  · rw [ha, hb, if_pos (by decide), if_neg (by decide), ite_01]
    exact t1
theorem bit_11 (x : Int32) : (x &&& 1 = 0 ∧ (20 : Int32) ||| (x &&& 1) = 20 ∧ ¬ x &&& 1 = 1) ∨ (x &&& 1 = 1 ∧ (20 : Int32) ||| (x &&& 1) = 21) := by
  obtain ⟨k, hk, e⟩ := pk_andE x (m := 1) 1 (by decide)
  have hk : k < 2 := hk
  rw [e]
  rcases (show k = 0 ∨ k = 1 by omega) with rfl | rfl
  · exact Or.inl ⟨by decide, by decide, by decide⟩
  · exact Or.inr ⟨by decide, by decide⟩
theorem w16_p0 {x : Int32} (h : mc_W16 x) : (x + 0) &&& 65535 = x := by
  rw [Int32.add_zero]
  exact h
/-- the opcode of a word -/
theorem op_of {w : Int32} (h : mc_W16 w) : ∃ k : Nat, k < 16 ∧ w >>> ((12 : Int32) &&& 31) = nI k := by
  obtain ⟨n, hn, rfl⟩ := w16_nI h
  exact ⟨n / 4096, by omega, pk_shrN (by omega) _ 12 (by decide)⟩
end
section
/-! One instruction of the micromachine is one 'execute' of the model -/
def mc_Rel (u : mc_S0) (v : mc_S1) : Prop := s_mm u = t_mm v ∧ s_rr u = t_rr v ∧ s_pc u = t_pc v ∧ mc_sg (s_sg u) (t_sg v) ∧ s_st u = t_st v ∧ s_ex u = t_ex v ∧ s_state u = 18
def mc_I (u : mc_S0) (v : mc_S1) : Prop := mc_Good u ∧ mc_Rel u v
theorem inn_go {n : Nat} {mm rr : Nat → Int32} {pc sg st ex mar mdr ir : Int32} (k : Int32) (h : ¬ k = 18) : innF ct0 (n + 1) (mm, rr, pc, sg, st, ex, k, mar, mdr, ir) = innF ct0 n (cyc ct0 (mm, rr, pc, sg, st, ex, k, mar, mdr, ir)) := if_neg h
theorem inn_stop {n : Nat} {mm rr : Nat → Int32} {pc sg st ex mar mdr ir : Int32} : innF ct0 n (mm, rr, pc, sg, st, ex, 18, mar, mdr, ir) = (mm, rr, pc, sg, st, ex, 18, mar, mdr, ir) := by
  cases n with
  | zero => rfl
  | succ n => exact if_pos rfl
theorem ins_fetch (mm rr : Nat → Int32) (pc sg st ex mar mdr ir : Int32) : insF ct0 (mm, rr, pc, sg, st, ex, 18, mar, mdr, ir) = innF ct0 7 (mm, rr, (pc + 1) &&& 65535, sg, st, ex, mm (pc &&& 63).toNatClampNeg >>> ((12 : Int32) &&& 31), pc, mm (pc &&& 63).toNatClampNeg, mm (pc &&& 63).toNatClampNeg) := by
  unfold insF
  rw [cs_18, inn_go (n := 9) 33 (by decide), cs_33, inn_go (n := 8) 35 (by decide), cs_35, inn_go (n := 7) 32 (by decide), cs_32]
theorem give_eq (dd x : Int32) (v : mc_S1) : giveF dd x v = (upd (t_rr v) dd.toNatClampNeg (x &&& 65535), t_mm v, t_pc v, sgOf (sgnF (x &&& 65535) 16), t_st v, t_ex v) := by
  unfold giveF wordF
  rw [pk_us]
theorem rel_give {mm rr : Nat → Int32} {pc sn st ex mar mdr ir X x dd : Int32} (hX : X = x &&& 65535) : mc_Rel (mm, upd rr dd.toNatClampNeg X, pc, sgB X, st, ex, 18, mar, mdr, ir) (giveF dd x (rr, mm, pc, sn, st, ex)) := by
  rw [give_eq, hX]
  exact ⟨rfl, rfl, rfl, sg_of (w16_and _), rfl, rfl, rfl⟩
set_option maxRecDepth 100000 in
theorem op_1 {mm rr : Nat → Int32} {pc sg sn st ex mar mdr w : Int32} (hs : mc_sg sg sn) (hm : ∀ j, mc_W16 (mm j)) (hr : ∀ j, mc_W16 (rr j)) (hp : mc_W16 pc) (hw : mc_W16 w) : mc_Rel (innF ct0 7 (mm, rr, pc, sg, st, ex, 1, mar, mdr, w)) (exeS 1 w (rr, mm, pc, sn, st, ex)) := by
  have es : exeS 1 w (rr, mm, pc, sn, st, ex) = giveF (d_of w) (rr (s_of w).toNatClampNeg + othF w (rr, mm, pc, sn, st, ex)) (rr, mm, pc, sn, st, ex) := rfl
  rw [inn_go (n := 6) 1 (by decide), cs_1, inn_stop]
  rw [es]
  refine rel_give ?_
  unfold sec2 othF
  split
  · rfl
  · rw [ex_5 hw, ar_low]
set_option maxRecDepth 100000 in
theorem op_5 {mm rr : Nat → Int32} {pc sg sn st ex mar mdr w : Int32} (hs : mc_sg sg sn) (hm : ∀ j, mc_W16 (mm j)) (hr : ∀ j, mc_W16 (rr j)) (hp : mc_W16 pc) (hw : mc_W16 w) : mc_Rel (innF ct0 7 (mm, rr, pc, sg, st, ex, 5, mar, mdr, w)) (exeS 5 w (rr, mm, pc, sn, st, ex)) := by
  have es : exeS 5 w (rr, mm, pc, sn, st, ex) = giveF (d_of w) (rr (s_of w).toNatClampNeg &&& othF w (rr, mm, pc, sn, st, ex)) (rr, mm, pc, sn, st, ex) := rfl
  rw [inn_go (n := 6) 5 (by decide), cs_5, inn_stop]
  rw [es]
  refine rel_give ?_
  unfold sec2 othF
  split
  · exact (w16_andl _ (hr _)).symm
  · rw [ex_5 hw, Int32.and_assoc]
set_option maxRecDepth 100000 in
theorem op_9 {mm rr : Nat → Int32} {pc sg sn st ex mar mdr w : Int32} (hs : mc_sg sg sn) (hm : ∀ j, mc_W16 (mm j)) (hr : ∀ j, mc_W16 (rr j)) (hp : mc_W16 pc) (hw : mc_W16 w) : mc_Rel (innF ct0 7 (mm, rr, pc, sg, st, ex, 9, mar, mdr, w)) (exeS 9 w (rr, mm, pc, sn, st, ex)) := by
  have es : exeS 9 w (rr, mm, pc, sn, st, ex) = giveF (d_of w) (65535 - rr (s_of w).toNatClampNeg) (rr, mm, pc, sn, st, ex) := rfl
  rw [inn_go (n := 6) 9 (by decide), cs_9, inn_stop]
  rw [es]
  exact rel_give (ar_not _)
set_option maxRecDepth 100000 in
theorem op_14 {mm rr : Nat → Int32} {pc sg sn st ex mar mdr w : Int32} (hs : mc_sg sg sn) (hm : ∀ j, mc_W16 (mm j)) (hr : ∀ j, mc_W16 (rr j)) (hp : mc_W16 pc) (hw : mc_W16 w) : mc_Rel (innF ct0 7 (mm, rr, pc, sg, st, ex, 14, mar, mdr, w)) (exeS 14 w (rr, mm, pc, sn, st, ex)) := by
  have es : exeS 14 w (rr, mm, pc, sn, st, ex) = giveF (d_of w) (pc + sgnF w 9) (rr, mm, pc, sn, st, ex) := rfl
  rw [inn_go (n := 6) 14 (by decide), cs_14, inn_stop]
  rw [es]
  refine rel_give ?_
  rw [ex_9 hw, ar_low]
set_option maxRecDepth 100000 in
theorem op_2 {mm rr : Nat → Int32} {pc sg sn st ex mar mdr w : Int32} (hs : mc_sg sg sn) (hm : ∀ j, mc_W16 (mm j)) (hr : ∀ j, mc_W16 (rr j)) (hp : mc_W16 pc) (hw : mc_W16 w) : mc_Rel (innF ct0 7 (mm, rr, pc, sg, st, ex, 2, mar, mdr, w)) (exeS 2 w (rr, mm, pc, sn, st, ex)) := by
  have es : exeS 2 w (rr, mm, pc, sn, st, ex) = giveF (d_of w) (mm ((pc + sgnF w 9) &&& 63).toNatClampNeg) (rr, mm, pc, sn, st, ex) := rfl
  rw [inn_go (n := 6) 2 (by decide), cs_2, inn_go (n := 5) 25 (by decide), cs_25, inn_go (n := 4) 27 (by decide), cs_27, inn_stop]
  rw [es]
  have hi : ((pc + extF w 9) &&& 65535) &&& 63 = (pc + sgnF w 9) &&& 63 := by rw [ar_63, ex_9 hw, ← ar_63, ar_low, ar_63]
  rw [hi]
  exact rel_give (hm _).symm
set_option maxRecDepth 100000 in
theorem op_6 {mm rr : Nat → Int32} {pc sg sn st ex mar mdr w : Int32} (hs : mc_sg sg sn) (hm : ∀ j, mc_W16 (mm j)) (hr : ∀ j, mc_W16 (rr j)) (hp : mc_W16 pc) (hw : mc_W16 w) : mc_Rel (innF ct0 7 (mm, rr, pc, sg, st, ex, 6, mar, mdr, w)) (exeS 6 w (rr, mm, pc, sn, st, ex)) := by
  have es : exeS 6 w (rr, mm, pc, sn, st, ex) = giveF (d_of w) (mm ((rr (s_of w).toNatClampNeg + sgnF w 6) &&& 63).toNatClampNeg) (rr, mm, pc, sn, st, ex) := rfl
  rw [inn_go (n := 6) 6 (by decide), cs_6, inn_go (n := 5) 25 (by decide), cs_25, inn_go (n := 4) 27 (by decide), cs_27, inn_stop]
  rw [es]
  have hi : ((rr (s_of w).toNatClampNeg + extF w 6) &&& 65535) &&& 63 = (rr (s_of w).toNatClampNeg + sgnF w 6) &&& 63 := by rw [ar_63, ex_6 hw, ← ar_63, ar_low, ar_63]
  rw [hi]
  exact rel_give (hm _).symm
set_option maxRecDepth 100000 in
theorem op_10 {mm rr : Nat → Int32} {pc sg sn st ex mar mdr w : Int32} (hs : mc_sg sg sn) (hm : ∀ j, mc_W16 (mm j)) (hr : ∀ j, mc_W16 (rr j)) (hp : mc_W16 pc) (hw : mc_W16 w) : mc_Rel (innF ct0 7 (mm, rr, pc, sg, st, ex, 10, mar, mdr, w)) (exeS 10 w (rr, mm, pc, sn, st, ex)) := by
  have es : exeS 10 w (rr, mm, pc, sn, st, ex) = giveF (d_of w) (mm (mm ((pc + sgnF w 9) &&& 63).toNatClampNeg &&& 63).toNatClampNeg) (rr, mm, pc, sn, st, ex) := rfl
  rw [inn_go (n := 6) 10 (by decide), cs_10, inn_go (n := 5) 24 (by decide), cs_24, inn_go (n := 4) 26 (by decide), cs_26, inn_go (n := 3) 25 (by decide), cs_25, inn_go (n := 2) 27 (by decide), cs_27, inn_stop]
  rw [es]
  have hi : ((pc + extF w 9) &&& 65535) &&& 63 = (pc + sgnF w 9) &&& 63 := by rw [ar_63, ex_9 hw, ← ar_63, ar_low, ar_63]
  rw [hi]
  exact rel_give (hm _).symm
set_option maxRecDepth 100000 in
theorem op_3 {mm rr : Nat → Int32} {pc sg sn st ex mar mdr w : Int32} (hs : mc_sg sg sn) (hm : ∀ j, mc_W16 (mm j)) (hr : ∀ j, mc_W16 (rr j)) (hp : mc_W16 pc) (hw : mc_W16 w) : mc_Rel (innF ct0 7 (mm, rr, pc, sg, st, ex, 3, mar, mdr, w)) (exeS 3 w (rr, mm, pc, sn, st, ex)) := by
  have es : exeS 3 w (rr, mm, pc, sn, st, ex) = (rr, upd mm ((pc + sgnF w 9) &&& 63).toNatClampNeg (rr (d_of w).toNatClampNeg), pc, sn, st, ex) := rfl
  rw [inn_go (n := 6) 3 (by decide), cs_3, inn_go (n := 5) 23 (by decide), cs_23, inn_go (n := 4) 16 (by decide), cs_16, inn_stop]
  rw [es]
  have hi : ((pc + extF w 9) &&& 65535) &&& 63 = (pc + sgnF w 9) &&& 63 := by rw [ar_63, ex_9 hw, ← ar_63, ar_low, ar_63]
  rw [hi]
  exact ⟨rfl, rfl, rfl, hs, rfl, rfl, rfl⟩
set_option maxRecDepth 100000 in
theorem op_7 {mm rr : Nat → Int32} {pc sg sn st ex mar mdr w : Int32} (hs : mc_sg sg sn) (hm : ∀ j, mc_W16 (mm j)) (hr : ∀ j, mc_W16 (rr j)) (hp : mc_W16 pc) (hw : mc_W16 w) : mc_Rel (innF ct0 7 (mm, rr, pc, sg, st, ex, 7, mar, mdr, w)) (exeS 7 w (rr, mm, pc, sn, st, ex)) := by
  have es : exeS 7 w (rr, mm, pc, sn, st, ex) = (rr, upd mm ((rr (s_of w).toNatClampNeg + sgnF w 6) &&& 63).toNatClampNeg (rr (d_of w).toNatClampNeg), pc, sn, st, ex) := rfl
  rw [inn_go (n := 6) 7 (by decide), cs_7, inn_go (n := 5) 23 (by decide), cs_23, inn_go (n := 4) 16 (by decide), cs_16, inn_stop]
  rw [es]
  have hi : ((rr (s_of w).toNatClampNeg + extF w 6) &&& 65535) &&& 63 = (rr (s_of w).toNatClampNeg + sgnF w 6) &&& 63 := by rw [ar_63, ex_6 hw, ← ar_63, ar_low, ar_63]
  rw [hi]
  exact ⟨rfl, rfl, rfl, hs, rfl, rfl, rfl⟩
set_option maxRecDepth 100000 in
theorem op_11 {mm rr : Nat → Int32} {pc sg sn st ex mar mdr w : Int32} (hs : mc_sg sg sn) (hm : ∀ j, mc_W16 (mm j)) (hr : ∀ j, mc_W16 (rr j)) (hp : mc_W16 pc) (hw : mc_W16 w) : mc_Rel (innF ct0 7 (mm, rr, pc, sg, st, ex, 11, mar, mdr, w)) (exeS 11 w (rr, mm, pc, sn, st, ex)) := by
  have es : exeS 11 w (rr, mm, pc, sn, st, ex) = (rr, upd mm (mm ((pc + sgnF w 9) &&& 63).toNatClampNeg &&& 63).toNatClampNeg (rr (d_of w).toNatClampNeg), pc, sn, st, ex) := rfl
  rw [inn_go (n := 6) 11 (by decide), cs_11, inn_go (n := 5) 29 (by decide), cs_29, inn_go (n := 4) 31 (by decide), cs_31, inn_go (n := 3) 23 (by decide), cs_23, inn_go (n := 2) 16 (by decide), cs_16, inn_stop]
  rw [es]
  have hi : ((pc + extF w 9) &&& 65535) &&& 63 = (pc + sgnF w 9) &&& 63 := by rw [ar_63, ex_9 hw, ← ar_63, ar_low, ar_63]
  rw [hi]
  exact ⟨rfl, rfl, rfl, hs, rfl, rfl, rfl⟩
set_option maxRecDepth 100000 in
theorem op_12 {mm rr : Nat → Int32} {pc sg sn st ex mar mdr w : Int32} (hs : mc_sg sg sn) (hm : ∀ j, mc_W16 (mm j)) (hr : ∀ j, mc_W16 (rr j)) (hp : mc_W16 pc) (hw : mc_W16 w) : mc_Rel (innF ct0 7 (mm, rr, pc, sg, st, ex, 12, mar, mdr, w)) (exeS 12 w (rr, mm, pc, sn, st, ex)) := by
  have es : exeS 12 w (rr, mm, pc, sn, st, ex) = (rr, mm, rr (s_of w).toNatClampNeg, sn, st, ex) := rfl
  rw [inn_go (n := 6) 12 (by decide), cs_12, inn_stop]
  rw [es]
  rw [w16_p0 (hr _)]
  exact ⟨rfl, rfl, rfl, hs, rfl, rfl, rfl⟩
set_option maxRecDepth 100000 in
theorem op_15 {mm rr : Nat → Int32} {pc sg sn st ex mar mdr w : Int32} (hs : mc_sg sg sn) (hm : ∀ j, mc_W16 (mm j)) (hr : ∀ j, mc_W16 (rr j)) (hp : mc_W16 pc) (hw : mc_W16 w) : mc_Rel (innF ct0 7 (mm, rr, pc, sg, st, ex, 15, mar, mdr, w)) (exeS 15 w (rr, mm, pc, sn, st, ex)) := by
  have es : exeS 15 w (rr, mm, pc, sn, st, ex) = (rr, mm, pc, sn, 1, ex) := rfl
  rw [inn_go (n := 6) 15 (by decide), cs_15, inn_stop]
  rw [es]
  exact ⟨rfl, rfl, rfl, hs, rfl, rfl, rfl⟩
set_option maxRecDepth 100000 in
theorem op_8 {mm rr : Nat → Int32} {pc sg sn st ex mar mdr w : Int32} (hs : mc_sg sg sn) (hm : ∀ j, mc_W16 (mm j)) (hr : ∀ j, mc_W16 (rr j)) (hp : mc_W16 pc) (hw : mc_W16 w) : mc_Rel (innF ct0 7 (mm, rr, pc, sg, st, ex, 8, mar, mdr, w)) (exeS 8 w (rr, mm, pc, sn, st, ex)) := by
  have es : exeS 8 w (rr, mm, pc, sn, st, ex) = (rr, mm, pc, sn, 2, ex) := rfl
  rw [inn_go (n := 6) 8 (by decide), cs_8, inn_stop]
  rw [es]
  exact ⟨rfl, rfl, rfl, hs, rfl, rfl, rfl⟩
set_option maxRecDepth 100000 in
theorem op_13 {mm rr : Nat → Int32} {pc sg sn st ex mar mdr w : Int32} (hs : mc_sg sg sn) (hm : ∀ j, mc_W16 (mm j)) (hr : ∀ j, mc_W16 (rr j)) (hp : mc_W16 pc) (hw : mc_W16 w) : mc_Rel (innF ct0 7 (mm, rr, pc, sg, st, ex, 13, mar, mdr, w)) (exeS 13 w (rr, mm, pc, sn, st, ex)) := by
  have es : exeS 13 w (rr, mm, pc, sn, st, ex) = (rr, mm, pc, sn, 2, ex) := rfl
  rw [inn_go (n := 6) 13 (by decide), cs_13, inn_stop]
  rw [es]
  exact ⟨rfl, rfl, rfl, hs, rfl, rfl, rfl⟩
set_option maxRecDepth 100000 in
theorem op_0 {mm rr : Nat → Int32} {pc sg sn st ex mar mdr w : Int32} (hs : mc_sg sg sn) (hm : ∀ j, mc_W16 (mm j)) (hr : ∀ j, mc_W16 (rr j)) (hp : mc_W16 pc) (hw : mc_W16 w) : mc_Rel (innF ct0 7 (mm, rr, pc, sg, st, ex, 0, mar, mdr, w)) (exeS 0 w (rr, mm, pc, sn, st, ex)) := by
  have es : exeS 0 w (rr, mm, pc, sn, st, ex) = if takF w (rr, mm, pc, sn, st, ex) = 0 then (rr, mm, pc, sn, st, ex) else (rr, mm, (pc + sgnF w 9) &&& 65535, sn, st, ex) := rfl
  rw [es]
  rw [inn_go (n := 6) 0 (by decide), cs_0]
  have hb := br_tak (v := (rr, mm, pc, sn, st, ex)) hw hs
  by_cases hc : (w >>> ((9 : Int32) &&& 31)) &&& sg = 0
  · rw [if_pos hc, if_pos (hb.mp hc), inn_stop]
    exact ⟨rfl, rfl, rfl, hs, rfl, rfl, rfl⟩
  · rw [if_neg hc, if_neg (fun h => hc (hb.mpr h)), inn_go (n := 5) 22 (by decide), cs_22, inn_stop, ex_9 hw, ar_low]
    exact ⟨rfl, rfl, rfl, hs, rfl, rfl, rfl⟩
set_option maxRecDepth 100000 in
theorem op_4 {mm rr : Nat → Int32} {pc sg sn st ex mar mdr w : Int32} (hs : mc_sg sg sn) (hm : ∀ j, mc_W16 (mm j)) (hr : ∀ j, mc_W16 (rr j)) (hp : mc_W16 pc) (hw : mc_W16 w) : mc_Rel (innF ct0 7 (mm, rr, pc, sg, st, ex, 4, mar, mdr, w)) (exeS 4 w (rr, mm, pc, sn, st, ex)) := by
  have es : exeS 4 w (rr, mm, pc, sn, st, ex) = if (w >>> ((11 : Int32) &&& 31)) &&& 1 = 1 then (upd rr 7 pc, mm, (pc + sgnF w 11) &&& 65535, sn, st, ex) else (upd rr 7 pc, mm, rr (s_of w).toNatClampNeg, sn, st, ex) := rfl
  rw [es]
  rw [inn_go (n := 6) 4 (by decide), cs_4]
  rcases bit_11 (w >>> ((11 : Int32) &&& 31)) with ⟨-, h2, h3⟩ | ⟨h1, h2⟩
  · rw [h2, if_neg h3, inn_go (n := 5) 20 (by decide), cs_20, inn_stop, w16_p0 (hr _)]
    exact ⟨rfl, rfl, rfl, hs, rfl, rfl, rfl⟩
  · rw [h2, if_pos h1, inn_go (n := 5) 21 (by decide), cs_21, inn_stop, ex_11 hw, ar_low]
    exact ⟨rfl, rfl, rfl, hs, rfl, rfl, rfl⟩
theorem op_all {mm rr : Nat → Int32} {pc sg sn st ex mar mdr w : Int32} (hs : mc_sg sg sn) (hm : ∀ j, mc_W16 (mm j)) (hr : ∀ j, mc_W16 (rr j)) (hp : mc_W16 pc) (hw : mc_W16 w) (k : Nat) (hk : k < 16) (h : w >>> ((12 : Int32) &&& 31) = nI k) : mc_Rel (innF ct0 7 (mm, rr, pc, sg, st, ex, w >>> ((12 : Int32) &&& 31), mar, mdr, w)) (exeS (w >>> ((12 : Int32) &&& 31)) w (rr, mm, pc, sn, st, ex)) := by
  rw [h]
  rcases (show k = 0 ∨ k = 1 ∨ k = 2 ∨ k = 3 ∨ k = 4 ∨ k = 5 ∨ k = 6 ∨ k = 7 ∨ k = 8 ∨ k = 9 ∨ k = 10 ∨ k = 11 ∨ k = 12 ∨ k = 13 ∨ k = 14 ∨ k = 15 by omega) with rfl | rfl | rfl | rfl | rfl | rfl | rfl | rfl | rfl | rfl | rfl | rfl | rfl | rfl | rfl | rfl
  · exact op_0 hs hm hr hp hw
  · exact op_1 hs hm hr hp hw
  · exact op_2 hs hm hr hp hw
  · exact op_3 hs hm hr hp hw
  · exact op_4 hs hm hr hp hw
  · exact op_5 hs hm hr hp hw
  · exact op_6 hs hm hr hp hw
  · exact op_7 hs hm hr hp hw
  · exact op_8 hs hm hr hp hw
  · exact op_9 hs hm hr hp hw
  · exact op_10 hs hm hr hp hw
  · exact op_11 hs hm hr hp hw
  · exact op_12 hs hm hr hp hw
  · exact op_13 hs hm hr hp hw
  · exact op_14 hs hm hr hp hw
  · exact op_15 hs hm hr hp hw
theorem ins_exe {u : mc_S0} {v : mc_S1} (h : mc_I u v) : mc_I (insF ct0 u) (exeF v) := by
  refine ⟨good_ins ct0 h.1, ?_⟩
  obtain ⟨⟨-, hp, -, -, hm, hr⟩, h1, h2, h3, h4, h5, h6, h7⟩ := h
  obtain ⟨mm, rr, pc, sg, st, ex, sta, mar, mdr, ir⟩ := u
  obtain ⟨rr', mm', pc', sn, st', ex'⟩ := v
  have h1 : mm = mm' := h1
  have h2 : rr = rr' := h2
  have h3 : pc = pc' := h3
  have h5 : st = st' := h5
  have h6 : ex = ex' := h6
  have h7 : sta = 18 := h7
  have hm : ∀ j, mc_W16 (mm j) := hm
  have hr : ∀ j, mc_W16 (rr j) := hr
  subst h1 h2 h3 h5 h6 h7
  rw [ins_fetch]
  have hw : mc_W16 (mm (pc &&& 63).toNatClampNeg) := hm _
  obtain ⟨k, hk, hop⟩ := op_of hw
  exact op_all (mar := pc) (mdr := mm (pc &&& 63).toNatClampNeg) h4 hm hr (w16_and _) hw k hk hop
theorem run_rel : ∀ (n k : Nat) {u : mc_S0} {v : mc_S1}, mc_I u v → mc_I (runF ct0 n u k).1 (runG n v k).1 ∧ (runF ct0 n u k).2 = (runG n v k).2
  | 0, _, _, _, h => ⟨h, rfl⟩
  | n + 1, k, u, v, h => by
    have hst : s_st u = t_st v := h.2.2.2.2.2.1
    unfold runF runG
    rw [hst]
    split
    · exact run_rel n (k + 1) (ins_exe h)
    · exact ⟨h, rfl⟩
/-- step against step: the answers agree, the states stay together -/
theorem step_rel (a : Int32) {u : mc_S0} {v : mc_S1} (h : mc_I u v) : nI (stepF ct0 a u).2 = nI (stepG a v).2 ∧ mc_I (put_ex (stepF ct0 a u).1 (s_ex (stepF ct0 a u).1 + nI (stepF ct0 a u).2)) (putt_ex (stepG a v).1 (t_ex (stepG a v).1 + nI (stepG a v).2)) := by
  obtain ⟨h1, h2⟩ := run_rel (wantF a) 0 h
  unfold stepF stepG
  rw [h2]
  refine ⟨rfl, h1.1, h1.2.1, h1.2.2.1, h1.2.2.2.1, h1.2.2.2.2.1, h1.2.2.2.2.2.1, ?_, h1.2.2.2.2.2.2.2⟩
  have e : s_ex (runF ct0 (wantF a) u 0).1 = t_ex (runG (wantF a) v 0).1 := h1.2.2.2.2.2.2.1
  show s_ex (runF ct0 (wantF a) u 0).1 + nI (runG (wantF a) v 0).2 = t_ex (runG (wantF a) v 0).1 + nI (runG (wantF a) v 0).2
  rw [e]
theorem w16_in {b : Int32} (h0 : ¬ b < 0) (h1 : b ≤ 65535) : mc_W16 b := by
  obtain ⟨j, hj, rfl⟩ := nI_of2 (M := 65535) (n := 65535) (by decide) h0 h1
  exact w16_of (by omega)
theorem isW_0 {b : Int32} (h : b < 0) : isWF b = 0 := if_pos h
theorem isW_1 {b : Int32} (h0 : ¬ b < 0) (h1 : ¬ b ≤ 65535) : isWF b = 0 := by
  unfold isWF
  rw [if_neg h0, if_pos (Int32.not_le.mp h1)]
theorem isW_2 {b : Int32} (h0 : ¬ b < 0) (h1 : b ≤ 65535) : ¬ isWF b = 0 := by
  unfold isWF
  rw [if_neg h0, if_neg (Int32.not_lt.mpr h1)]
  decide
theorem poke_rel (a b : Int32) {u : mc_S0} {v : mc_S1} (h : mc_I u v) : (pokeF u a b).1 = (pokeG v a b).1 ∧ mc_I (pokeF u a b).2 (pokeG v a b).2 := by
  unfold pokeF pokeG
  by_cases h1 : a < 0
  · rw [if_pos h1, if_pos h1]
    exact ⟨rfl, h⟩
  · rw [if_neg h1, if_neg h1]
    by_cases h2 : 63 < a
    · rw [if_pos h2, if_pos h2]
      exact ⟨rfl, h⟩
    · rw [if_neg h2, if_neg h2]
      by_cases h3 : b < 0
      · rw [if_pos h3, if_pos (isW_0 h3)]
        exact ⟨rfl, h⟩
      · rw [if_neg h3]
        by_cases h4 : b ≤ 65535
        · rw [if_pos h4, if_neg (isW_2 h3 h4)]
          obtain ⟨⟨g0, g1, g2, g3, g4, g5⟩, r1, r2, r3, r4, r5, r6, r7⟩ := h
          refine ⟨rfl, ⟨g0, g1, g2, g3, w16_upd g4 (w16_in h3 h4), g5⟩, ?_, r2, r3, r4, r5, r6, r7⟩
          show upd (s_mm u) _ b = upd (t_mm v) _ b
          rw [r1]
        · rw [if_neg h4, if_pos (isW_1 h3 h4)]
          exact ⟨rfl, h⟩
theorem set_rel (a b : Int32) {u : mc_S0} {v : mc_S1} (h : mc_I u v) : (setF u a b).1 = (setG v a b).1 ∧ mc_I (setF u a b).2 (setG v a b).2 := by
  unfold setF setG
  by_cases h1 : a < 0
  · rw [if_pos h1, if_pos h1]
    exact ⟨rfl, h⟩
  · rw [if_neg h1, if_neg h1]
    by_cases h2 : 7 < a
    · rw [if_pos h2, if_pos h2]
      exact ⟨rfl, h⟩
    · rw [if_neg h2, if_neg h2]
      by_cases h3 : b < 0
      · rw [if_pos h3, if_pos (isW_0 h3)]
        exact ⟨rfl, h⟩
      · rw [if_neg h3]
        by_cases h4 : b ≤ 65535
        · rw [if_pos h4, if_neg (isW_2 h3 h4)]
          obtain ⟨⟨g0, g1, g2, g3, g4, g5⟩, r1, r2, r3, r4, r5, r6, r7⟩ := h
          refine ⟨rfl, ⟨g0, g1, g2, g3, g4, w16_upd g5 (w16_in h3 h4)⟩, r1, ?_, r3, r4, r5, r6, r7⟩
          show upd (s_rr u) _ b = upd (t_rr v) _ b
          rw [r2]
        · rw [if_neg h4, if_pos (isW_1 h3 h4)]
          exact ⟨rfl, h⟩
theorem start_rel (b : Int32) {u : mc_S0} {v : mc_S1} (h : mc_I u v) : (startF u b).1 = (startG v b).1 ∧ mc_I (startF u b).2 (startG v b).2 := by
  unfold startF startG
  by_cases h3 : b < 0
  · rw [if_pos h3, if_pos (isW_0 h3)]
    exact ⟨rfl, h⟩
  · rw [if_neg h3]
    by_cases h4 : b ≤ 65535
    · rw [if_pos h4, if_neg (isW_2 h3 h4)]
      obtain ⟨⟨g0, g1, g2, g3, g4, g5⟩, r1, r2, r3, r4, r5, r6, r7⟩ := h
      exact ⟨rfl, ⟨g0, w16_in h3 h4, g2, g3, g4, g5⟩, r1, r2, rfl, r4, rfl, r6, r7⟩
    · rw [if_neg h4, if_pos (isW_1 h3 h4)]
      exact ⟨rfl, h⟩
theorem peek_rel (a : Int32) {u : mc_S0} {v : mc_S1} (h : mc_I u v) : peekF u a = peekG v a := by
  have r1 : s_mm u = t_mm v := h.2.1
  unfold peekF peekG
  by_cases h1 : a < 0
  · rw [if_pos h1, if_pos h1]
  · rw [if_neg h1, if_neg h1, r1]
    by_cases h2 : a ≤ 63
    · rw [if_pos h2, if_neg (Int32.not_lt.mpr h2)]
    · rw [if_neg h2, if_pos (Int32.not_le.mp h2)]
theorem reg_rel (a : Int32) {u : mc_S0} {v : mc_S1} (h : mc_I u v) : regF u a = regG v a := by
  have r1 : s_rr u = t_rr v := h.2.2.1
  unfold regF regG
  by_cases h1 : a < 0
  · rw [if_pos h1, if_pos h1]
  · rw [if_neg h1, if_neg h1, r1]
    by_cases h2 : a ≤ 7
    · rw [if_pos h2, if_neg (Int32.not_lt.mpr h2)]
    · rw [if_neg h2, if_pos (Int32.not_le.mp h2)]
theorem place_rel {u : mc_S0} {v : mc_S1} (h : mc_I u v) : s_pc u = t_pc v := h.2.2.2.1
theorem sign_rel {u : mc_S0} {v : mc_S1} (h : mc_I u v) : signF u = t_sg v := by
  unfold signF
  rcases h.2.2.2.2.1 with ⟨a, b⟩ | ⟨a, b⟩ | ⟨a, b⟩
  · rw [a, b]; rfl
  · rw [a, b]; rfl
  · rw [a, b]; rfl
theorem status_rel {u : mc_S0} {v : mc_S1} (h : mc_I u v) : s_st u = t_st v := h.2.2.2.2.2.1
theorem count_rel {u : mc_S0} {v : mc_S1} (h : mc_I u v) : s_ex u = t_ex v := h.2.2.2.2.2.2.1
theorem init_rel : mc_I mc_u0 mc_v0 := ⟨⟨vp_in_nI (n := 18) (by decide) (by decide), w16_0, w16_0, w16_0, fun _ => w16_0, fun _ => w16_0⟩, rfl, rfl, rfl, Or.inr (Or.inl ⟨rfl, rfl⟩), rfl, rfl, rfl⟩
end
section
/-! THE LAW: (the skeleton's words), its calls as rows, its loop -/
def R_law : String := "MicroLc3Law"
def lw_P (b : Addr) (xs : List Int32) (args : Array Value) (s : State) : Prop := args = #[.ref b] ∧ s.IntsAt b xs ∧ xs.length ≤ 192 ∧ (Jvm.Cond.and given_1 narrow_1).before args s = true
def lw_Q (_ : Array Value) (s : State) (o : Outcome) (t : State) : Prop := o = .returned (some (.int 1)) ∧ Framed s o t [] 600000 7290000
def lw_Z (below : List Frame) (a : Array Value) (s : State) : State → Prop := fun t => ∃ o, t.status = .running ∧ Ended t below o ∧ lw_Q a s o t
/-- the law's own end, with 1 on the stack, nothing written that was there before, its room as the claim has it -/
theorem lw_ret {p : Program} {l : Launch} {e : Env} {s : State} {m : MethodId} {below : List Frame} {meth : Method} {c : Code} {b : Nat} (hx : p.tables.exec = Jvm.exec) (hb : c.code = code) (hr : meth.sig.returnType = ret) (hlocks : meth.locks = false) {pc : Nat} {H : Heap} {ls : Array Slot} (hdg : decode code pc = .ok (.ireturn, 1)) : W p l e room_1 s m #[Value.ref b] below meth c H [] 600000 7290000 (lw_Z below #[Value.ref b] s) (F0 m pc ls [.int 1]) := by
  intro T hT X
  obtain ⟨fs, hret, hrun, hended, hW, hframe⟩ := X.leave (v := some (.int 1)) (hlocks := hlocks) (fun h => by rw [hr] at h; cases h)
  have hmeth' : T.vm.method? m = some meth := X.method'
  refine ⟨T.setFrames fs, ?_, .returned (some (.int 1)), hrun, hended, rfl, ⟨_, rfl⟩, hW, hframe⟩
  jvm_step X.here [X.here.top, hx, hb, hdg, hmeth', hr, ret, narrow_b1]
  (try refine ⟨rfl, ?_⟩); (try refine ⟨rfl, ?_⟩)
  first | (intro acts; rw [hret _ acts rfl rfl rfl]) | rw [hret _ _ rfl rfl rfl]
  exact Steps.refl _
/-- what holds at the law's entry: the machine, the code, the tables' words (any of lw_tbl by 'hts w (by decide +kernel)'), the script of L ints xs at the cell b, what the Statement gives of the start (any of its parts by flat_of_before) -/
def lw_At (p : Program) (s : State) (m : MethodId) (meth : Method) (c : Code) (b L : Nat) (xs : Nat → Int32) : Prop :=
  p.tables.exec = Jvm.exec ∧ c.code = code ∧ meth.sig.returnType = ret ∧ c.maxLocals = 4 ∧ s.vm.findClass R_law = some m.cls ∧ (∀ w ∈ lw_tbl, w.before #[Value.ref b] s = true) ∧ va_X b L xs s s.heap ∧ b < s.heap.size ∧ meth.locks = false ∧ (Jvm.Cond.and given_1 narrow_1).before #[Value.ref b] s = true
theorem lx_read {p : Program} {l : Launch} {e : Env} {R : Room} {s : State} {m : MethodId} {args : Array Value} {below : List Frame} {meth : Method} {c : Code} {H : Heap} {locs : List Loc} {cells slots : Nat} {Q : State → Prop} {cc : ByteArray} {pc nL : Nat} {ls : Array Slot} {rest : List Value} {dC : Nat → ClassId} {dI : Nat → Nat → Nat} {h0 qc qm qr g0 pr pm : Nat} {d d' : ClassId} {ct : Nat → Int32} {u : mc_S0} {v : mc_S1} {y : MethodName} {b' : ByteArray} {idx L n : Nat} {ret' : Option FieldType} {rm : Room} {As st0 : List Value} {r0 : Int32} (S : CallFix p m c cc nL s args lw_all R_law) (hM : Met l y (ws_ y b' L ret') rm (va_Pc (.ref h0 :: As) (fun U => va_P (dC, dI) vwCl (mc_W0 h0 qc qm qr d ct u) U.heap ∧ va_K (dC, dI) vwCl [(d, .int)] U)) (vp_Si (fun r => r = r0)) 0 0 (fun _ => False)) (cw : CallW R s args R_law RX0 idx y b' L ret' (ws_ y b' L ret') rm 0 0 n) (hK : va_K (dC, dI) vwCl [(d, .int), (d', .int)] s) (hP : va_P (dC, dI) vwCl (mc_W0 h0 qc qm qr d ct u ++ mc_W1 g0 pr pm d' v) H) (hn : As.length = n) (hst : st0 = As.reverse ++ .ref h0 :: rest) (hsz : ls.size = nL) (hrest : (rest.map fun v => v.category).sum ≤ 8) (hdg : decode cc pc = .ok (.invokevirtual idx, 3)) (hf : cells ≤ R.cells ∧ slots ≤ R.slots) (kk : W p l e R s m args below meth c H locs cells slots Q (F0 m (pc + 3) ls (.int r0 :: rest))) : W p l e R s m args below meth c H locs cells slots Q (F0 m pc ls st0) := by
  refine vp_callSi (W.runV (As := As) (rest := rest) S hM cw ⟨fun a U g mk q => ⟨q.1, q.2.1, va_K.moved (u := U) (U := U.calling g mk a) (Vm.Alike.refl U.vm) q.2.2⟩, va_recv hK hP (ci := 0) (q0 := 0) rfl rfl, fun U hU hW => ⟨rfl, by rw [hU]; exact hP.sub [0, 1, 2, 3] rfl, va_K.moved hW.alike (hK.sub [0] rfl)⟩⟩ rfl hn hsz hst (lv_room hrest) hdg hf) (fun r hr => ?_)
  have hr : r = r0 := hr
  rw [hr]
  exact kk
theorem lx_write {p : Program} {l : Launch} {e : Env} {R : Room} {s : State} {m : MethodId} {args : Array Value} {below : List Frame} {meth : Method} {c : Code} {H : Heap} {locs : List Loc} {cells slots : Nat} {Q : State → Prop} {cc : ByteArray} {pc nL : Nat} {ls : Array Slot} {rest : List Value} {dC : Nat → ClassId} {dI : Nat → Nat → Nat} {h0 qc qm qr g0 pr pm : Nat} {d d' : ClassId} {ct : Nat → Int32} {u : mc_S0} {v : mc_S1} {y : MethodName} {b' : ByteArray} {idx L n : Nat} {ret' : Option FieldType} {rm : Room} {As st0 : List Value} {r0 : Int32} {x1 : mc_S0} {A : Nat → Prop} {H0 : Heap} (S : CallFix p m c cc nL s args lw_all R_law) (hA : ∀ q : Nat, H0.size ≤ q → A q) (hM : ∀ sz : Nat, Met l y (ws_ y b' L ret') rm (va_Pc (.ref h0 :: As) (mc_P0 dC dI h0 qc qm qr d ct sz u)) (va_Qi (fun (r : Int32) (x' : mc_S0) => r = r0 ∧ x' = x1) (mc_B0 dC dI (va_A (mc_W0 h0 qc qm qr d ct u) sz) h0 qc qm qr d ct) (va_A (mc_W0 h0 qc qm qr d ct u) sz)) 0 0 (va_A (mc_W0 h0 qc qm qr d ct u) sz)) (cw : CallW R s args R_law RX0 idx y b' L ret' (ws_ y b' L ret') rm 0 0 n) (hK : va_K (dC, dI) vwCl [(d, .int), (d', .int)] s) (hP : va_P (dC, dI) vwCl (mc_W0 h0 qc qm qr d ct u ++ mc_W1 g0 pr pm d' v) H) (hD : va_D A (mc_W0 h0 qc qm qr d ct u ++ mc_W1 g0 pr pm d' v)) (hS : va_S A H0 H locs) (hn : As.length = n) (hst : st0 = As.reverse ++ .ref h0 :: rest) (hsz : ls.size = nL) (hrest : (rest.map fun v => v.category).sum ≤ 8) (hdg : decode cc pc = .ok (.invokevirtual idx, 3)) (hf : cells ≤ R.cells ∧ slots ≤ R.slots) (kk : ∀ (H : Heap) (locs : List Loc), va_P (dC, dI) vwCl (mc_W0 h0 qc qm qr d ct x1 ++ mc_W1 g0 pr pm d' v) H → va_D A (mc_W0 h0 qc qm qr d ct x1 ++ mc_W1 g0 pr pm d' v) → va_S A H0 H locs → W p l e R s m args below meth c H locs cells slots Q (F0 m (pc + 3) ls (.int r0 :: rest))) : W p l e R s m args below meth c H locs cells slots Q (F0 m pc ls st0) := by
  have hPc := hP.sub (ws' := mc_W0 h0 qc qm qr d ct u) [0, 1, 2, 3] rfl
  have hDc := hD.sub (ws' := mc_W0 h0 qc qm qr d ct u) [0, 1, 2, 3] (by decide) rfl
  have hKc := hK.sub (tys' := [(d, .int)]) [0] rfl
  have hFc := va_free (wc := mc_W0 h0 qc qm qr d ct u) hD hS hA [0, 1, 2, 3] rfl
  refine va_calli (va_runV (As := As) (rest := rest) S (hM H.size) cw ⟨fun a U g mk q => ⟨q.1, q.2.1, q.2.2.1, va_K.moved (u := U) (U := U.calling g mk a) (Vm.Alike.refl U.vm) q.2.2.2.1, q.2.2.2.2⟩, va_recv hKc hPc (ci := 0) (q0 := 0) rfl rfl, fun U hU hW => ⟨rfl, by rw [hU], by rw [hU]; exact hPc, va_K.moved hW.alike hKc, hDc.weaken (fun _ _ _ _ => trivial)⟩⟩ rfl hn hsz hst (lv_room hrest) hdg hf) hS (fun q _ h => hFc q h) hFc (fun r x' t H1 locs1 ht hvm hw hB hz1 hk1 hS => ?_)
  obtain ⟨hr, hu⟩ : r = r0 ∧ x' = x1 := hw
  obtain ⟨hP1, hK1, hD1⟩ := hB
  rw [ht] at hP1
  subst hr
  subst hu
  obtain ⟨hP, hD⟩ := va_join (wr := mc_W1 g0 pr pm d' v) (w1 := mc_W0 h0 qc qm qr d ct x') hP hD [0, 1, 2, 3] [4, 5, 6] rfl rfl (by decide) (by decide) hk1 hFc hP1 hD1
  exact kk H1 locs1 (hP.sub [3, 4, 5, 6, 0, 1, 2] rfl) (hD.sub [3, 4, 5, 6, 0, 1, 2] (by decide) rfl) hS
theorem lm_read {p : Program} {l : Launch} {e : Env} {R : Room} {s : State} {m : MethodId} {args : Array Value} {below : List Frame} {meth : Method} {c : Code} {H : Heap} {locs : List Loc} {cells slots : Nat} {Q : State → Prop} {cc : ByteArray} {pc nL : Nat} {ls : Array Slot} {rest : List Value} {dC : Nat → ClassId} {dI : Nat → Nat → Nat} {h0 qc qm qr g0 pr pm : Nat} {d d' : ClassId} {ct : Nat → Int32} {u : mc_S0} {v : mc_S1} {y : MethodName} {b' : ByteArray} {idx L n : Nat} {ret' : Option FieldType} {rm : Room} {As st0 : List Value} {r0 : Int32} (S : CallFix p m c cc nL s args lw_all R_law) (hM : Met l y (ws_ y b' L ret') rm (va_Pc (.ref g0 :: As) (fun U => va_P (dC, dI) vwCl (mc_W1 g0 pr pm d' v) U.heap ∧ va_K (dC, dI) vwCl [(d', .int)] U)) (vp_Si (fun r => r = r0)) 0 0 (fun _ => False)) (cw : CallW R s args R_law RX1 idx y b' L ret' (ws_ y b' L ret') rm 0 0 n) (hK : va_K (dC, dI) vwCl [(d, .int), (d', .int)] s) (hP : va_P (dC, dI) vwCl (mc_W0 h0 qc qm qr d ct u ++ mc_W1 g0 pr pm d' v) H) (hn : As.length = n) (hst : st0 = As.reverse ++ .ref g0 :: rest) (hsz : ls.size = nL) (hrest : (rest.map fun v => v.category).sum ≤ 8) (hdg : decode cc pc = .ok (.invokevirtual idx, 3)) (hf : cells ≤ R.cells ∧ slots ≤ R.slots) (kk : W p l e R s m args below meth c H locs cells slots Q (F0 m (pc + 3) ls (.int r0 :: rest))) : W p l e R s m args below meth c H locs cells slots Q (F0 m pc ls st0) := by
  refine vp_callSi (W.runV (As := As) (rest := rest) S hM cw ⟨fun a U g mk q => ⟨q.1, q.2.1, va_K.moved (u := U) (U := U.calling g mk a) (Vm.Alike.refl U.vm) q.2.2⟩, va_recv hK hP (ci := 1) (q0 := 4) rfl rfl, fun U hU hW => ⟨rfl, by rw [hU]; exact hP.sub [4, 5, 6] rfl, va_K.moved hW.alike (hK.sub [1] rfl)⟩⟩ rfl hn hsz hst (lv_room hrest) hdg hf) (fun r hr => ?_)
  have hr : r = r0 := hr
  rw [hr]
  exact kk
theorem lm_write {p : Program} {l : Launch} {e : Env} {R : Room} {s : State} {m : MethodId} {args : Array Value} {below : List Frame} {meth : Method} {c : Code} {H : Heap} {locs : List Loc} {cells slots : Nat} {Q : State → Prop} {cc : ByteArray} {pc nL : Nat} {ls : Array Slot} {rest : List Value} {dC : Nat → ClassId} {dI : Nat → Nat → Nat} {h0 qc qm qr g0 pr pm : Nat} {d d' : ClassId} {ct : Nat → Int32} {u : mc_S0} {v : mc_S1} {y : MethodName} {b' : ByteArray} {idx L n : Nat} {ret' : Option FieldType} {rm : Room} {As st0 : List Value} {r0 : Int32} {x1 : mc_S1} {A : Nat → Prop} {H0 : Heap} (S : CallFix p m c cc nL s args lw_all R_law) (hA : ∀ q : Nat, H0.size ≤ q → A q) (hM : ∀ sz : Nat, Met l y (ws_ y b' L ret') rm (va_Pc (.ref g0 :: As) (mc_P1 dC dI g0 pr pm d' sz v)) (va_Qi (fun (r : Int32) (x' : mc_S1) => r = r0 ∧ x' = x1) (mc_B1 dC dI (va_A (mc_W1 g0 pr pm d' v) sz) g0 pr pm d') (va_A (mc_W1 g0 pr pm d' v) sz)) 0 0 (va_A (mc_W1 g0 pr pm d' v) sz)) (cw : CallW R s args R_law RX1 idx y b' L ret' (ws_ y b' L ret') rm 0 0 n) (hK : va_K (dC, dI) vwCl [(d, .int), (d', .int)] s) (hP : va_P (dC, dI) vwCl (mc_W0 h0 qc qm qr d ct u ++ mc_W1 g0 pr pm d' v) H) (hD : va_D A (mc_W0 h0 qc qm qr d ct u ++ mc_W1 g0 pr pm d' v)) (hS : va_S A H0 H locs) (hn : As.length = n) (hst : st0 = As.reverse ++ .ref g0 :: rest) (hsz : ls.size = nL) (hrest : (rest.map fun v => v.category).sum ≤ 8) (hdg : decode cc pc = .ok (.invokevirtual idx, 3)) (hf : cells ≤ R.cells ∧ slots ≤ R.slots) (kk : ∀ (H : Heap) (locs : List Loc), va_P (dC, dI) vwCl (mc_W0 h0 qc qm qr d ct u ++ mc_W1 g0 pr pm d' x1) H → va_D A (mc_W0 h0 qc qm qr d ct u ++ mc_W1 g0 pr pm d' x1) → va_S A H0 H locs → W p l e R s m args below meth c H locs cells slots Q (F0 m (pc + 3) ls (.int r0 :: rest))) : W p l e R s m args below meth c H locs cells slots Q (F0 m pc ls st0) := by
  have hPc := hP.sub (ws' := mc_W1 g0 pr pm d' v) [4, 5, 6] rfl
  have hDc := hD.sub (ws' := mc_W1 g0 pr pm d' v) [4, 5, 6] (by decide) rfl
  have hKc := hK.sub (tys' := [(d', .int)]) [1] rfl
  have hFc := va_free (wc := mc_W1 g0 pr pm d' v) hD hS hA [4, 5, 6] rfl
  refine va_calli (va_runV (As := As) (rest := rest) S (hM H.size) cw ⟨fun a U g mk q => ⟨q.1, q.2.1, q.2.2.1, va_K.moved (u := U) (U := U.calling g mk a) (Vm.Alike.refl U.vm) q.2.2.2.1, q.2.2.2.2⟩, va_recv hKc hPc (ci := 1) (q0 := 0) rfl rfl, fun U hU hW => ⟨rfl, by rw [hU], by rw [hU]; exact hPc, va_K.moved hW.alike hKc, hDc.weaken (fun _ _ _ _ => trivial)⟩⟩ rfl hn hsz hst (lv_room hrest) hdg hf) hS (fun q _ h => hFc q h) hFc (fun r x' t H1 locs1 ht hvm hw hB hz1 hk1 hS => ?_)
  obtain ⟨hr, hu⟩ : r = r0 ∧ x' = x1 := hw
  obtain ⟨hP1, hK1, hD1⟩ := hB
  rw [ht] at hP1
  subst hr
  subst hu
  obtain ⟨hP, hD⟩ := va_join (wr := mc_W0 h0 qc qm qr d ct u) (w1 := mc_W1 g0 pr pm d' x') hP hD [4, 5, 6] [0, 1, 2, 3] rfl rfl (by decide) (by decide) hk1 hFc hP1 hD1
  exact kk H1 locs1 hP hD hS
theorem lw_i3 {L i : Nat} (hL : L ≤ 192) (hi : i ≤ 400) (h : ¬ Int32.ofNat L - 3 < nI i) : i + 2 < L := by
  have e : (Int32.ofNat L - 3 : Int32) = nI L - nI 3 := rfl
  rw [e, Int32.lt_iff_toInt_lt, pk_sub_toInt (by omega) (by decide), nI_toInt (by omega)] at h
  omega
theorem lw_in1 {L i : Nat} (hL : L ≤ 192) (h : i + 2 < L) : vp_in (nI i + 1) L := by
  rw [nI_1]
  exact vp_in_nI (by omega) (by omega)
theorem lw_in2 {L i : Nat} (hL : L ≤ 192) (h : i + 2 < L) : vp_in (nI i + 2) L := by
  rw [show (2 : Int32) = nI 2 from rfl, nI_add]
  exact vp_in_nI (by omega) (by omega)
set_option maxHeartbeats 4000000 in
set_option maxRecDepth 100000 in
/-- THE LAW'S LOOP at its head: i ints read; the two machines stand together -/
theorem law_loop {p : Program} {l : Launch} {e : Env} {s : State} {m : MethodId} {below : List Frame} {meth : Method} {c : Code} {dC : Nat → ClassId} {dI : Nat → Nat → Nat} {b L : Nat} {xs : Nat → Int32} {h0 qc qm qr g0 pr pm : Nat} {d d' : ClassId} (hL : L ≤ 192) (C0 : lw_At p s m meth c b L xs) (hK : va_K (dC, dI) vwCl [(d, .int), (d', .int)] s) : ∀ (n i : Nat) (u : mc_S0) (v : mc_S1), i ≤ L + 3 → L + 6 ≤ i + 3 * n → mc_I u v → ∀ (H : Heap) (locs : List Loc), va_P (dC, dI) vwCl (mc_W0 h0 qc qm qr d ct0 u ++ mc_W1 g0 pr pm d' v) H → va_D (fun q : Nat => s.heap.size ≤ q) (mc_W0 h0 qc qm qr d ct0 u ++ mc_W1 g0 pr pm d' v) → va_S (fun q : Nat => s.heap.size ≤ q) s.heap H locs → ∀ (ls : Array Slot), lv_has ls 4 [(0, .ref b), (1, .ref h0), (2, .ref g0), (3, .int (nI i))] → W p l e room_1 s m #[Value.ref b] below meth c H locs 7 225 (lw_Z below #[Value.ref b] s) (F0 m 18 ls []) := by
  obtain ⟨hx, hb, hr, hml, hown, hts0, hX, hbl, hlocks, hgv⟩ := C0
  have hts : ∀ w ∈ lw_all, w.before #[Value.ref b] s = true := fun w h => hts0 w (lw_all_tbl h)
  have hA : ∀ q : Nat, s.heap.size ≤ q → (fun q : Nat => s.heap.size ≤ q) q := fun _ h => h
  have hbA : ¬ (fun q : Nat => s.heap.size ≤ q) b := Nat.not_le.mpr hbl
  intro n
  induction n with
  | zero =>
    intro i u v h1 h2
    exact absurd h2 (by omega)
  | succ n ih =>
    intro i u v hi hin hI H locs hP hD hS ls hl
    refine lv_iload_n hx hb dL_law_18 rfl (lv_at hl 3 rfl) ?_
    refine lv_aload_n hx hb dL_law_19 rfl (lv_at hl 0 rfl) ?_
    refine va_slen hx hb hX hbl hbA hS dL_law_20 ?_
    refine lv_iconst (v := 3) hx hb dL_law_21 (by decide) ?_
    refine lv_isub hx hb dL_law_22 ?_
    refine lv_icmp_gt (tgt := 304) hx hb dL_law_23 (by decide) (fun c_1 => ?_) (fun c_1 => ?_)
    · refine lv_iconst (v := 1) hx hb dL_law_304 (by decide) ?_
      refine va_forget (fun q hq => hS.2.2 q hq) ?_
      refine W.widen (k := 600000) (n := 7290000) (by decide) (by decide) ?_
      exact lw_ret hx hb hr hlocks dL_law_305
    · have h3 : i + 2 < L := lw_i3 hL (by omega) c_1
      have n1 : vp_in (nI i + 1) L := lw_in1 hL h3
      have n2 : vp_in (nI i + 2) L := lw_in2 hL h3
      have j298 : ∀ (u : mc_S0) (v : mc_S1) (H : Heap) (locs : List Loc), mc_I u v → va_P (dC, dI) vwCl (mc_W0 h0 qc qm qr d ct0 u ++ mc_W1 g0 pr pm d' v) H → va_D (fun q : Nat => s.heap.size ≤ q) (mc_W0 h0 qc qm qr d ct0 u ++ mc_W1 g0 pr pm d' v) → va_S (fun q : Nat => s.heap.size ≤ q) s.heap H locs → W p l e room_1 s m #[Value.ref b] below meth c H locs 7 225 (lw_Z below #[Value.ref b] s) (F0 m 298 ls []) := by
        intro u v H locs hI hP hD hS
        refine lv_iinc (v := nI (i + 3)) (lv' := [(3, .int (nI (i + 3))), (0, .ref b), (1, .ref h0), (2, .ref g0)]) hx hb dL_law_298 hl (k := 3) rfl (nI_add i 3) (by decide) rfl (fun ls hl => ?_)
        refine lv_goto (tgt := 18) hx hb dL_law_301 (by decide) ?_
        exact ih (i + 3) u v (by omega) (by omega) hI H locs hP hD hS ls (lv_sub hl [1, 2, 3, 0] rfl)
      refine lv_aload_n hx hb dL_law_26 rfl (lv_at hl 0 rfl) ?_
      refine lv_iload_n hx hb dL_law_27 rfl (lv_at hl 3 rfl) ?_
      refine va_sld hx hb hX hbl hbA hS (vp_in_nI (by omega) (by omega)) dL_law_28 ?_
      refine lv_bipush (v := 15) hx hb dL_law_29 (by decide) ?_
      refine lv_iand hx hb dL_law_31 ?_
      obtain ⟨j, hj, ej⟩ := pk_andE (xs (nI i).toNatClampNeg) (m := 15) 4 (by decide)
      have hj : j < 16 := hj
      rw [ej]
      rcases (show j = 0 ∨ j = 1 ∨ j = 2 ∨ j = 3 ∨ j = 4 ∨ j = 5 ∨ j = 6 ∨ j = 7 ∨ j = 8 ∨ j = 9 ∨ j = 10 ∨ j = 11 ∨ j = 12 ∨ j = 13 ∨ j = 14 ∨ j = 15 by omega) with rfl | rfl | rfl | rfl | rfl | rfl | rfl | rfl | rfl | rfl | rfl | rfl | rfl | rfl | rfl | rfl
      · refine lv_tableIn (tgt := 88) (off := 56) hx hb dL_law_32 (by decide) (by decide) (by decide) (by decide) ?_
        refine lv_aload_n hx hb dL_law_88 rfl (lv_at hl 1 rfl) ?_
        refine lv_aload_n hx hb dL_law_89 rfl (lv_at hl 0 rfl) ?_
        refine lv_iload_n hx hb dL_law_90 rfl (lv_at hl 3 rfl) ?_
        refine lv_iconst (v := 1) hx hb dL_law_91 (by decide) ?_
        refine lv_iadd hx hb dL_law_92 ?_
        refine va_sld hx hb hX hbl hbA hS n1 dL_law_93 ?_
        refine lv_aload_n hx hb dL_law_94 rfl (lv_at hl 0 rfl) ?_
        refine lv_iload_n hx hb dL_law_95 rfl (lv_at hl 3 rfl) ?_
        refine lv_iconst (v := 2) hx hb dL_law_96 (by decide) ?_
        refine lv_iadd hx hb dL_law_97 ?_
        refine va_sld hx hb hX hbl hbA hS n2 dL_law_98 ?_
        refine lx_write (As := [.int (xs (nI i + 1).toNatClampNeg), .int (xs (nI i + 2).toNatClampNeg)]) (rest := []) ⟨hx, hb, hml, hown, hts⟩ hA (fun sz => met_poke l dC dI h0 qc qm qr d ct0 sz u (xs (nI i + 1).toNatClampNeg) (xs (nI i + 2).toNatClampNeg)) (cwV 2 hts (lw_V q110 q111 q112 q23 q113) rfl rfl rfl (by decide +kernel) ⟨Nat.le_of_ble_eq_true rfl, Nat.le_of_ble_eq_true rfl⟩) hK hP hD hS rfl rfl hl.1 (Nat.le_of_ble_eq_true rfl) dL_law_99 ⟨Nat.le_of_ble_eq_true rfl, Nat.le_of_ble_eq_true rfl⟩ (fun H locs hP hD hS => ?_)
        refine lv_aload_n hx hb dL_law_102 rfl (lv_at hl 2 rfl) ?_
        refine lv_aload_n hx hb dL_law_103 rfl (lv_at hl 0 rfl) ?_
        refine lv_iload_n hx hb dL_law_104 rfl (lv_at hl 3 rfl) ?_
        refine lv_iconst (v := 1) hx hb dL_law_105 (by decide) ?_
        refine lv_iadd hx hb dL_law_106 ?_
        refine va_sld hx hb hX hbl hbA hS n1 dL_law_107 ?_
        refine lv_aload_n hx hb dL_law_108 rfl (lv_at hl 0 rfl) ?_
        refine lv_iload_n hx hb dL_law_109 rfl (lv_at hl 3 rfl) ?_
        refine lv_iconst (v := 2) hx hb dL_law_110 (by decide) ?_
        refine lv_iadd hx hb dL_law_111 ?_
        refine va_sld hx hb hX hbl hbA hS n2 dL_law_112 ?_
        refine lm_write (As := [.int (xs (nI i + 1).toNatClampNeg), .int (xs (nI i + 2).toNatClampNeg)]) (rest := [_]) ⟨hx, hb, hml, hown, hts⟩ hA (fun sz => met1_poke l dC dI g0 pr pm d' sz v (xs (nI i + 1).toNatClampNeg) (xs (nI i + 2).toNatClampNeg)) (cwV 2 hts (lw_V q232 q233 q234 q24 q235) rfl rfl rfl (by decide +kernel) ⟨Nat.le_of_ble_eq_true rfl, Nat.le_of_ble_eq_true rfl⟩) hK hP hD hS rfl rfl hl.1 (Nat.le_of_ble_eq_true rfl) dL_law_113 ⟨Nat.le_of_ble_eq_true rfl, Nat.le_of_ble_eq_true rfl⟩ (fun H locs hP hD hS => ?_)
        refine lv_icmp_eq (tgt := 298) hx hb dL_law_116 (by decide) (fun c_2 => ?_) (fun c_2 => ?_)
        · exact j298 _ _ _ _ (poke_rel _ _ hI).2 hP hD hS
        · exact absurd (poke_rel _ _ hI).1 c_2
      · refine lv_tableIn (tgt := 121) (off := 89) hx hb dL_law_32 (by decide) (by decide) (by decide) (by decide) ?_
        refine lv_aload_n hx hb dL_law_121 rfl (lv_at hl 1 rfl) ?_
        refine lv_aload_n hx hb dL_law_122 rfl (lv_at hl 0 rfl) ?_
        refine lv_iload_n hx hb dL_law_123 rfl (lv_at hl 3 rfl) ?_
        refine lv_iconst (v := 1) hx hb dL_law_124 (by decide) ?_
        refine lv_iadd hx hb dL_law_125 ?_
        refine va_sld hx hb hX hbl hbA hS n1 dL_law_126 ?_
        refine lx_read (As := [.int (xs (nI i + 1).toNatClampNeg)]) (rest := []) ⟨hx, hb, hml, hown, hts⟩ (met_peek l dC dI h0 qc qm qr d ct0 u (xs (nI i + 1).toNatClampNeg)) (cwV 1 hts (lw_V q115 q116 q117 q23 q118) rfl rfl rfl (by decide +kernel) ⟨Nat.le_of_ble_eq_true rfl, Nat.le_of_ble_eq_true rfl⟩) hK hP rfl rfl hl.1 (Nat.le_of_ble_eq_true rfl) dL_law_127 ⟨Nat.le_of_ble_eq_true rfl, Nat.le_of_ble_eq_true rfl⟩ ?_
        refine lv_aload_n hx hb dL_law_130 rfl (lv_at hl 2 rfl) ?_
        refine lv_aload_n hx hb dL_law_131 rfl (lv_at hl 0 rfl) ?_
        refine lv_iload_n hx hb dL_law_132 rfl (lv_at hl 3 rfl) ?_
        refine lv_iconst (v := 1) hx hb dL_law_133 (by decide) ?_
        refine lv_iadd hx hb dL_law_134 ?_
        refine va_sld hx hb hX hbl hbA hS n1 dL_law_135 ?_
        refine lm_read (As := [.int (xs (nI i + 1).toNatClampNeg)]) (rest := [_]) ⟨hx, hb, hml, hown, hts⟩ (met1_peek l dC dI g0 pr pm d' v (xs (nI i + 1).toNatClampNeg)) (cwV 1 hts (lw_V q241 q242 q243 q24 q244) rfl rfl rfl (by decide +kernel) ⟨Nat.le_of_ble_eq_true rfl, Nat.le_of_ble_eq_true rfl⟩) hK hP rfl rfl hl.1 (Nat.le_of_ble_eq_true rfl) dL_law_136 ⟨Nat.le_of_ble_eq_true rfl, Nat.le_of_ble_eq_true rfl⟩ ?_
        refine lv_icmp_eq (tgt := 298) hx hb dL_law_139 (by decide) (fun c_2 => ?_) (fun c_2 => ?_)
        · exact j298 _ _ _ _ hI hP hD hS
        · exact absurd (peek_rel _ hI) c_2
      · refine lv_tableIn (tgt := 144) (off := 112) hx hb dL_law_32 (by decide) (by decide) (by decide) (by decide) ?_
        refine lv_aload_n hx hb dL_law_144 rfl (lv_at hl 1 rfl) ?_
        refine lv_aload_n hx hb dL_law_145 rfl (lv_at hl 0 rfl) ?_
        refine lv_iload_n hx hb dL_law_146 rfl (lv_at hl 3 rfl) ?_
        refine lv_iconst (v := 1) hx hb dL_law_147 (by decide) ?_
        refine lv_iadd hx hb dL_law_148 ?_
        refine va_sld hx hb hX hbl hbA hS n1 dL_law_149 ?_
        refine lv_aload_n hx hb dL_law_150 rfl (lv_at hl 0 rfl) ?_
        refine lv_iload_n hx hb dL_law_151 rfl (lv_at hl 3 rfl) ?_
        refine lv_iconst (v := 2) hx hb dL_law_152 (by decide) ?_
        refine lv_iadd hx hb dL_law_153 ?_
        refine va_sld hx hb hX hbl hbA hS n2 dL_law_154 ?_
        refine lx_write (As := [.int (xs (nI i + 1).toNatClampNeg), .int (xs (nI i + 2).toNatClampNeg)]) (rest := []) ⟨hx, hb, hml, hown, hts⟩ hA (fun sz => met_setRegister l dC dI h0 qc qm qr d ct0 sz u (xs (nI i + 1).toNatClampNeg) (xs (nI i + 2).toNatClampNeg)) (cwV 2 hts (lw_V q119 q120 q121 q23 q122) rfl rfl rfl (by decide +kernel) ⟨Nat.le_of_ble_eq_true rfl, Nat.le_of_ble_eq_true rfl⟩) hK hP hD hS rfl rfl hl.1 (Nat.le_of_ble_eq_true rfl) dL_law_155 ⟨Nat.le_of_ble_eq_true rfl, Nat.le_of_ble_eq_true rfl⟩ (fun H locs hP hD hS => ?_)
        refine lv_aload_n hx hb dL_law_158 rfl (lv_at hl 2 rfl) ?_
        refine lv_aload_n hx hb dL_law_159 rfl (lv_at hl 0 rfl) ?_
        refine lv_iload_n hx hb dL_law_160 rfl (lv_at hl 3 rfl) ?_
        refine lv_iconst (v := 1) hx hb dL_law_161 (by decide) ?_
        refine lv_iadd hx hb dL_law_162 ?_
        refine va_sld hx hb hX hbl hbA hS n1 dL_law_163 ?_
        refine lv_aload_n hx hb dL_law_164 rfl (lv_at hl 0 rfl) ?_
        refine lv_iload_n hx hb dL_law_165 rfl (lv_at hl 3 rfl) ?_
        refine lv_iconst (v := 2) hx hb dL_law_166 (by decide) ?_
        refine lv_iadd hx hb dL_law_167 ?_
        refine va_sld hx hb hX hbl hbA hS n2 dL_law_168 ?_
        refine lm_write (As := [.int (xs (nI i + 1).toNatClampNeg), .int (xs (nI i + 2).toNatClampNeg)]) (rest := [_]) ⟨hx, hb, hml, hown, hts⟩ hA (fun sz => met1_setRegister l dC dI g0 pr pm d' sz v (xs (nI i + 1).toNatClampNeg) (xs (nI i + 2).toNatClampNeg)) (cwV 2 hts (lw_V q245 q246 q247 q24 q248) rfl rfl rfl (by decide +kernel) ⟨Nat.le_of_ble_eq_true rfl, Nat.le_of_ble_eq_true rfl⟩) hK hP hD hS rfl rfl hl.1 (Nat.le_of_ble_eq_true rfl) dL_law_169 ⟨Nat.le_of_ble_eq_true rfl, Nat.le_of_ble_eq_true rfl⟩ (fun H locs hP hD hS => ?_)
        refine lv_icmp_eq (tgt := 298) hx hb dL_law_172 (by decide) (fun c_2 => ?_) (fun c_2 => ?_)
        · exact j298 _ _ _ _ (set_rel _ _ hI).2 hP hD hS
        · exact absurd (set_rel _ _ hI).1 c_2
      · refine lv_tableIn (tgt := 177) (off := 145) hx hb dL_law_32 (by decide) (by decide) (by decide) (by decide) ?_
        refine lv_aload_n hx hb dL_law_177 rfl (lv_at hl 1 rfl) ?_
        refine lv_aload_n hx hb dL_law_178 rfl (lv_at hl 0 rfl) ?_
        refine lv_iload_n hx hb dL_law_179 rfl (lv_at hl 3 rfl) ?_
        refine lv_iconst (v := 1) hx hb dL_law_180 (by decide) ?_
        refine lv_iadd hx hb dL_law_181 ?_
        refine va_sld hx hb hX hbl hbA hS n1 dL_law_182 ?_
        refine lx_read (As := [.int (xs (nI i + 1).toNatClampNeg)]) (rest := []) ⟨hx, hb, hml, hown, hts⟩ (met_register l dC dI h0 qc qm qr d ct0 u (xs (nI i + 1).toNatClampNeg)) (cwV 1 hts (lw_V q123 q124 q125 q23 q126) rfl rfl rfl (by decide +kernel) ⟨Nat.le_of_ble_eq_true rfl, Nat.le_of_ble_eq_true rfl⟩) hK hP rfl rfl hl.1 (Nat.le_of_ble_eq_true rfl) dL_law_183 ⟨Nat.le_of_ble_eq_true rfl, Nat.le_of_ble_eq_true rfl⟩ ?_
        refine lv_aload_n hx hb dL_law_186 rfl (lv_at hl 2 rfl) ?_
        refine lv_aload_n hx hb dL_law_187 rfl (lv_at hl 0 rfl) ?_
        refine lv_iload_n hx hb dL_law_188 rfl (lv_at hl 3 rfl) ?_
        refine lv_iconst (v := 1) hx hb dL_law_189 (by decide) ?_
        refine lv_iadd hx hb dL_law_190 ?_
        refine va_sld hx hb hX hbl hbA hS n1 dL_law_191 ?_
        refine lm_read (As := [.int (xs (nI i + 1).toNatClampNeg)]) (rest := [_]) ⟨hx, hb, hml, hown, hts⟩ (met1_register l dC dI g0 pr pm d' v (xs (nI i + 1).toNatClampNeg)) (cwV 1 hts (lw_V q249 q250 q251 q24 q252) rfl rfl rfl (by decide +kernel) ⟨Nat.le_of_ble_eq_true rfl, Nat.le_of_ble_eq_true rfl⟩) hK hP rfl rfl hl.1 (Nat.le_of_ble_eq_true rfl) dL_law_192 ⟨Nat.le_of_ble_eq_true rfl, Nat.le_of_ble_eq_true rfl⟩ ?_
        refine lv_icmp_eq (tgt := 298) hx hb dL_law_195 (by decide) (fun c_2 => ?_) (fun c_2 => ?_)
        · exact j298 _ _ _ _ hI hP hD hS
        · exact absurd (reg_rel _ hI) c_2
      · refine lv_tableIn (tgt := 200) (off := 168) hx hb dL_law_32 (by decide) (by decide) (by decide) (by decide) ?_
        refine lv_aload_n hx hb dL_law_200 rfl (lv_at hl 1 rfl) ?_
        refine lv_aload_n hx hb dL_law_201 rfl (lv_at hl 0 rfl) ?_
        refine lv_iload_n hx hb dL_law_202 rfl (lv_at hl 3 rfl) ?_
        refine lv_iconst (v := 1) hx hb dL_law_203 (by decide) ?_
        refine lv_iadd hx hb dL_law_204 ?_
        refine va_sld hx hb hX hbl hbA hS n1 dL_law_205 ?_
        refine lx_write (As := [.int (xs (nI i + 1).toNatClampNeg)]) (rest := []) ⟨hx, hb, hml, hown, hts⟩ hA (fun sz => met_start l dC dI h0 qc qm qr d ct0 sz u (xs (nI i + 1).toNatClampNeg)) (cwV 1 hts (lw_V q127 q128 q129 q23 q130) rfl rfl rfl (by decide +kernel) ⟨Nat.le_of_ble_eq_true rfl, Nat.le_of_ble_eq_true rfl⟩) hK hP hD hS rfl rfl hl.1 (Nat.le_of_ble_eq_true rfl) dL_law_206 ⟨Nat.le_of_ble_eq_true rfl, Nat.le_of_ble_eq_true rfl⟩ (fun H locs hP hD hS => ?_)
        refine lv_aload_n hx hb dL_law_209 rfl (lv_at hl 2 rfl) ?_
        refine lv_aload_n hx hb dL_law_210 rfl (lv_at hl 0 rfl) ?_
        refine lv_iload_n hx hb dL_law_211 rfl (lv_at hl 3 rfl) ?_
        refine lv_iconst (v := 1) hx hb dL_law_212 (by decide) ?_
        refine lv_iadd hx hb dL_law_213 ?_
        refine va_sld hx hb hX hbl hbA hS n1 dL_law_214 ?_
        refine lm_write (As := [.int (xs (nI i + 1).toNatClampNeg)]) (rest := [_]) ⟨hx, hb, hml, hown, hts⟩ hA (fun sz => met1_start l dC dI g0 pr pm d' sz v (xs (nI i + 1).toNatClampNeg)) (cwV 1 hts (lw_V q253 q254 q255 q24 q256) rfl rfl rfl (by decide +kernel) ⟨Nat.le_of_ble_eq_true rfl, Nat.le_of_ble_eq_true rfl⟩) hK hP hD hS rfl rfl hl.1 (Nat.le_of_ble_eq_true rfl) dL_law_215 ⟨Nat.le_of_ble_eq_true rfl, Nat.le_of_ble_eq_true rfl⟩ (fun H locs hP hD hS => ?_)
        refine lv_icmp_eq (tgt := 298) hx hb dL_law_218 (by decide) (fun c_2 => ?_) (fun c_2 => ?_)
        · exact j298 _ _ _ _ (start_rel _ hI).2 hP hD hS
        · exact absurd (start_rel _ hI).1 c_2
      · refine lv_tableIn (tgt := 223) (off := 191) hx hb dL_law_32 (by decide) (by decide) (by decide) (by decide) ?_
        refine lv_aload_n hx hb dL_law_223 rfl (lv_at hl 1 rfl) ?_
        refine lv_aload_n hx hb dL_law_224 rfl (lv_at hl 0 rfl) ?_
        refine lv_iload_n hx hb dL_law_225 rfl (lv_at hl 3 rfl) ?_
        refine lv_iconst (v := 1) hx hb dL_law_226 (by decide) ?_
        refine lv_iadd hx hb dL_law_227 ?_
        refine va_sld hx hb hX hbl hbA hS n1 dL_law_228 ?_
        refine lx_write (As := [.int (xs (nI i + 1).toNatClampNeg)]) (rest := []) ⟨hx, hb, hml, hown, hts⟩ hA (fun sz => met_step l dC dI h0 qc qm qr d ct0 sz u hI.1 (xs (nI i + 1).toNatClampNeg)) (cwV 1 hts (lw_V q131 q132 q133 q23 q134) rfl rfl rfl (by decide +kernel) ⟨Nat.le_of_ble_eq_true rfl, Nat.le_of_ble_eq_true rfl⟩) hK hP hD hS rfl rfl hl.1 (Nat.le_of_ble_eq_true rfl) dL_law_229 ⟨Nat.le_of_ble_eq_true rfl, Nat.le_of_ble_eq_true rfl⟩ (fun H locs hP hD hS => ?_)
        refine lv_aload_n hx hb dL_law_232 rfl (lv_at hl 2 rfl) ?_
        refine lv_aload_n hx hb dL_law_233 rfl (lv_at hl 0 rfl) ?_
        refine lv_iload_n hx hb dL_law_234 rfl (lv_at hl 3 rfl) ?_
        refine lv_iconst (v := 1) hx hb dL_law_235 (by decide) ?_
        refine lv_iadd hx hb dL_law_236 ?_
        refine va_sld hx hb hX hbl hbA hS n1 dL_law_237 ?_
        refine lm_write (As := [.int (xs (nI i + 1).toNatClampNeg)]) (rest := [_]) ⟨hx, hb, hml, hown, hts⟩ hA (fun sz => met1_step l dC dI g0 pr pm d' sz v (xs (nI i + 1).toNatClampNeg)) (cwV 1 hts (lw_V q257 q258 q259 q24 q260) rfl rfl rfl (by decide +kernel) ⟨Nat.le_of_ble_eq_true rfl, Nat.le_of_ble_eq_true rfl⟩) hK hP hD hS rfl rfl hl.1 (Nat.le_of_ble_eq_true rfl) dL_law_238 ⟨Nat.le_of_ble_eq_true rfl, Nat.le_of_ble_eq_true rfl⟩ (fun H locs hP hD hS => ?_)
        refine lv_icmp_eq (tgt := 298) hx hb dL_law_241 (by decide) (fun c_2 => ?_) (fun c_2 => ?_)
        · exact j298 _ _ _ _ (step_rel _ hI).2 hP hD hS
        · exact absurd (step_rel _ hI).1 c_2
      · refine lv_tableIn (tgt := 246) (off := 214) hx hb dL_law_32 (by decide) (by decide) (by decide) (by decide) ?_
        refine lv_aload_n hx hb dL_law_246 rfl (lv_at hl 1 rfl) ?_
        refine lx_read (As := []) (rest := []) ⟨hx, hb, hml, hown, hts⟩ (met_place l dC dI h0 qc qm qr d ct0 u) (cwV 0 hts (lw_V q191 q192 q193 q23 q194) rfl rfl rfl (by decide +kernel) ⟨Nat.le_of_ble_eq_true rfl, Nat.le_of_ble_eq_true rfl⟩) hK hP rfl rfl hl.1 (Nat.le_of_ble_eq_true rfl) dL_law_247 ⟨Nat.le_of_ble_eq_true rfl, Nat.le_of_ble_eq_true rfl⟩ ?_
        refine lv_aload_n hx hb dL_law_250 rfl (lv_at hl 2 rfl) ?_
        refine lm_read (As := []) (rest := [_]) ⟨hx, hb, hml, hown, hts⟩ (met1_place l dC dI g0 pr pm d' v) (cwV 0 hts (lw_V q293 q294 q295 q24 q296) rfl rfl rfl (by decide +kernel) ⟨Nat.le_of_ble_eq_true rfl, Nat.le_of_ble_eq_true rfl⟩) hK hP rfl rfl hl.1 (Nat.le_of_ble_eq_true rfl) dL_law_251 ⟨Nat.le_of_ble_eq_true rfl, Nat.le_of_ble_eq_true rfl⟩ ?_
        refine lv_icmp_eq (tgt := 298) hx hb dL_law_254 (by decide) (fun c_2 => ?_) (fun c_2 => ?_)
        · exact j298 _ _ _ _ hI hP hD hS
        · exact absurd (place_rel hI) c_2
      · refine lv_tableIn (tgt := 259) (off := 227) hx hb dL_law_32 (by decide) (by decide) (by decide) (by decide) ?_
        refine lv_aload_n hx hb dL_law_259 rfl (lv_at hl 1 rfl) ?_
        refine lx_read (As := []) (rest := []) ⟨hx, hb, hml, hown, hts⟩ (met_sign l dC dI h0 qc qm qr d ct0 u) (cwV 0 hts (lw_V q195 q196 q197 q23 q198) rfl rfl rfl (by decide +kernel) ⟨Nat.le_of_ble_eq_true rfl, Nat.le_of_ble_eq_true rfl⟩) hK hP rfl rfl hl.1 (Nat.le_of_ble_eq_true rfl) dL_law_260 ⟨Nat.le_of_ble_eq_true rfl, Nat.le_of_ble_eq_true rfl⟩ ?_
        refine lv_aload_n hx hb dL_law_263 rfl (lv_at hl 2 rfl) ?_
        refine lm_read (As := []) (rest := [_]) ⟨hx, hb, hml, hown, hts⟩ (met1_sign l dC dI g0 pr pm d' v) (cwV 0 hts (lw_V q297 q298 q299 q24 q300) rfl rfl rfl (by decide +kernel) ⟨Nat.le_of_ble_eq_true rfl, Nat.le_of_ble_eq_true rfl⟩) hK hP rfl rfl hl.1 (Nat.le_of_ble_eq_true rfl) dL_law_264 ⟨Nat.le_of_ble_eq_true rfl, Nat.le_of_ble_eq_true rfl⟩ ?_
        refine lv_icmp_eq (tgt := 298) hx hb dL_law_267 (by decide) (fun c_2 => ?_) (fun c_2 => ?_)
        · exact j298 _ _ _ _ hI hP hD hS
        · exact absurd (sign_rel hI) c_2
      · refine lv_tableIn (tgt := 272) (off := 240) hx hb dL_law_32 (by decide) (by decide) (by decide) (by decide) ?_
        refine lv_aload_n hx hb dL_law_272 rfl (lv_at hl 1 rfl) ?_
        refine lx_read (As := []) (rest := []) ⟨hx, hb, hml, hown, hts⟩ (met_status l dC dI h0 qc qm qr d ct0 u) (cwV 0 hts (lw_V q199 q200 q201 q23 q202) rfl rfl rfl (by decide +kernel) ⟨Nat.le_of_ble_eq_true rfl, Nat.le_of_ble_eq_true rfl⟩) hK hP rfl rfl hl.1 (Nat.le_of_ble_eq_true rfl) dL_law_273 ⟨Nat.le_of_ble_eq_true rfl, Nat.le_of_ble_eq_true rfl⟩ ?_
        refine lv_aload_n hx hb dL_law_276 rfl (lv_at hl 2 rfl) ?_
        refine lm_read (As := []) (rest := [_]) ⟨hx, hb, hml, hown, hts⟩ (met1_status l dC dI g0 pr pm d' v) (cwV 0 hts (lw_V q301 q302 q303 q24 q304) rfl rfl rfl (by decide +kernel) ⟨Nat.le_of_ble_eq_true rfl, Nat.le_of_ble_eq_true rfl⟩) hK hP rfl rfl hl.1 (Nat.le_of_ble_eq_true rfl) dL_law_277 ⟨Nat.le_of_ble_eq_true rfl, Nat.le_of_ble_eq_true rfl⟩ ?_
        refine lv_icmp_eq (tgt := 298) hx hb dL_law_280 (by decide) (fun c_2 => ?_) (fun c_2 => ?_)
        · exact j298 _ _ _ _ hI hP hD hS
        · exact absurd (status_rel hI) c_2
      · refine lv_tableIn (tgt := 285) (off := 253) hx hb dL_law_32 (by decide) (by decide) (by decide) (by decide) ?_
        refine lv_aload_n hx hb dL_law_285 rfl (lv_at hl 1 rfl) ?_
        refine lx_read (As := []) (rest := []) ⟨hx, hb, hml, hown, hts⟩ (met_count l dC dI h0 qc qm qr d ct0 u) (cwV 0 hts (lw_V q203 q204 q205 q23 q206) rfl rfl rfl (by decide +kernel) ⟨Nat.le_of_ble_eq_true rfl, Nat.le_of_ble_eq_true rfl⟩) hK hP rfl rfl hl.1 (Nat.le_of_ble_eq_true rfl) dL_law_286 ⟨Nat.le_of_ble_eq_true rfl, Nat.le_of_ble_eq_true rfl⟩ ?_
        refine lv_aload_n hx hb dL_law_289 rfl (lv_at hl 2 rfl) ?_
        refine lm_read (As := []) (rest := [_]) ⟨hx, hb, hml, hown, hts⟩ (met1_count l dC dI g0 pr pm d' v) (cwV 0 hts (lw_V q305 q306 q307 q24 q308) rfl rfl rfl (by decide +kernel) ⟨Nat.le_of_ble_eq_true rfl, Nat.le_of_ble_eq_true rfl⟩) hK hP rfl rfl hl.1 (Nat.le_of_ble_eq_true rfl) dL_law_290 ⟨Nat.le_of_ble_eq_true rfl, Nat.le_of_ble_eq_true rfl⟩ ?_
        refine lv_icmp_eq (tgt := 298) hx hb dL_law_293 (by decide) (fun c_2 => ?_) (fun c_2 => ?_)
        · exact j298 _ _ _ _ hI hP hD hS
        · exact absurd (count_rel hI) c_2
      · refine lv_tableOut (tgt := 298) hx hb dL_law_32 (Or.inr (by decide)) (by decide) ?_
        exact j298 _ _ _ _ hI hP hD hS
      · refine lv_tableOut (tgt := 298) hx hb dL_law_32 (Or.inr (by decide)) (by decide) ?_
        exact j298 _ _ _ _ hI hP hD hS
      · refine lv_tableOut (tgt := 298) hx hb dL_law_32 (Or.inr (by decide)) (by decide) ?_
        exact j298 _ _ _ _ hI hP hD hS
      · refine lv_tableOut (tgt := 298) hx hb dL_law_32 (Or.inr (by decide)) (by decide) ?_
        exact j298 _ _ _ _ hI hP hD hS
      · refine lv_tableOut (tgt := 298) hx hb dL_law_32 (Or.inr (by decide)) (by decide) ?_
        exact j298 _ _ _ _ hI hP hD hS
      · refine lv_tableOut (tgt := 298) hx hb dL_law_32 (Or.inr (by decide)) (by decide) ?_
        exact j298 _ _ _ _ hI hP hD hS
end
section
/-! THE LAW from its entry, and the claim (the skeleton's end) -/
set_option maxHeartbeats 4000000 in
set_option maxRecDepth 100000 in
theorem whole_start {p : Program} {e : Env} {s : State} {m : MethodId} {below : List Frame} {meth : Method} {c : Code} (l : Launch) {b L : Nat} {xs : Nat → Int32} (hL : L ≤ 192) (C0 : lw_At p s m meth c b L xs) : W p l e room_1 s m #[Value.ref b] below meth c s.heap [] 0 0 (lw_Z below #[Value.ref b] s) (entryFrame m ([Value.ref b] : List Value).toArray 4) := by
  obtain ⟨hx, hb, hr, hml, hown, hts0, hX, hbl, hlocks, hgv⟩ := id C0
  have hts : ∀ w ∈ lw_all, w.before #[Value.ref b] s = true := fun w h => hts0 w (lw_all_tbl h)
  have hA : ∀ q : Nat, s.heap.size ≤ q → (fun q : Nat => s.heap.size ≤ q) q := fun _ h => h
  obtain ⟨c0, iS0, hKn0⟩ := u_known (C := RX0) (T := TX0) (N := 11) (n := 11) hts in_X0 (hts _ q26)
  obtain ⟨c1, iS1, hKn1⟩ := u_known (C := RX1) (T := TX1) (N := 6) (n := 6) hts in_X1 (hts _ q208)
  obtain ⟨dC, dI, hKc⟩ : ∃ (dC : Nat → ClassId) (dI : Nat → Nat → Nat), ∀ (k : Nat) (q : vw_C), vwCl[k]? = some q → u_Kn s q.1 q.2.1 q.2.2 (dC k) (dI k) := by
    refine ⟨fun k => if k = 0 then c0 else c1, fun k => if k = 0 then iS0 else iS1, ?_⟩
    intro k q hq
    match k, hq with
    | 0, hq => cases hq; exact hKn0
    | 1, hq => cases hq; exact hKn1
    | k + 2, hq => simp [vwCl] at hq
  have hS : va_S (fun q : Nat => s.heap.size ≤ q) s.heap s.heap [] := va_S.rf
  have hK : va_K (dC, dI) vwCl [] s := ⟨hKc, fun k q h => by simp at h⟩
  have hP : va_P (dC, dI) vwCl [] s.heap := fun k q h => by simp at h
  have hD : va_D (fun q : Nat => s.heap.size ≤ q) [] := ⟨fun i j p q h => by simp at h, fun k q h => by simp at h⟩
  have hl := lv_entry ([.ref b]) (n := 4) (Nat.le_of_ble_eq_true rfl)
  rw [lg_entry_eq]
  generalize (lg_sl ([.ref b]) ++ List.replicate (4 - (lg_sl ([.ref b])).length) Slot.unset).toArray = ls at hl ⊢
  have hl : lv_has ls 4 [(0, .ref b)] := hl
  refine va_new (ci := 0) (fs := [.null, .null, .null, .int 0, .int 0, .int 0, .int 0, .int 0, .int 0, .int 0, .int 0]) (C := RX0) (T := TX0) (N := 11) hx hb hts in_X0 tyX0 tyX0_ok hown (hts _ q25) (hts _ q26) (hts _ q23) hK hP hD hS hA rfl (fun j hj => by rcases (show j = 0 ∨ j = 1 ∨ j = 2 ∨ j = 3 ∨ j = 4 ∨ j = 5 ∨ j = 6 ∨ j = 7 ∨ j = 8 ∨ j = 9 ∨ j = 10 by omega) with rfl | rfl | rfl | rfl | rfl | rfl | rfl | rfl | rfl | rfl | rfl <;> rfl) (Nat.le_of_ble_eq_true rfl) (Nat.le_of_ble_eq_true rfl) dL_law_0 (fun h0 H hP hD hS => ?_)
  have hP : va_P (dC, dI) vwCl [(h0, .inr (0, [.null, .null, .null, .int 0, .int 0, .int 0, .int 0, .int 0, .int 0, .int 0, .int 0]))] H := hP
  have hD : va_D (fun q : Nat => s.heap.size ≤ q) [(h0, .inr (0, [.null, .null, .null, .int 0, .int 0, .int 0, .int 0, .int 0, .int 0, .int 0, .int 0]))] := hD
  refine W.widen (k := 1) (n := 11) (by decide) (by decide) ?_
  refine lv_dup hx hb dL_law_3 rfl ?_
  have hFc := va_free (wc := [(h0, .inr (0, [.null, .null, .null, .int 0, .int 0, .int 0, .int 0, .int 0, .int 0, .int 0, .int 0]))]) hD hS hA [0] rfl
  refine va_callv (va_runI (As := []) (rest := [.ref h0]) ⟨hx, hb, hml, hown, hts⟩ (met_init0 l dC dI h0 H.size) (cwI 0 hts (lw_meth q29) rfl rfl rfl (hts _ q23) (hts _ q27) (hts _ q28) rfl (by decide +kernel) ⟨Nat.le_of_ble_eq_true rfl, Nat.le_of_ble_eq_true rfl⟩) ⟨fun a U g mk q => by obtain ⟨q0, q1, qP, qK, qD⟩ := q; exact ⟨q0, q1, qP, va_K.moved (u := U) (U := U.calling g mk a) (Vm.Alike.refl U.vm) qK, qD⟩, fun U hU hW => ⟨rfl, by rw [hU], by rw [hU]; exact hP, va_K.moved hW.alike hK, hD.weaken (fun _ _ _ _ => trivial)⟩⟩ rfl rfl hl.1 rfl (lv_room (Nat.le_of_ble_eq_true rfl)) dL_law_4 ⟨Nat.le_of_ble_eq_true rfl, Nat.le_of_ble_eq_true rfl⟩) hS (fun q _ h => hFc q h) hFc (fun u t H1 locs ht hvm hw hB hz1 hk1 hS => ?_)
  obtain ⟨qc, qm, qr, d, hP1, hK1, hD1⟩ := hB
  rw [ht] at hP1
  have hK1 := va_K.moved hvm.symm hK1
  obtain ⟨hP, hD⟩ := va_join (wr := []) (w1 := mc_W0 h0 qc qm qr d ct0 mc_u0) hP hD [0] [] rfl rfl (by decide) (by decide) hk1 hFc hP1 hD1
  generalize H1 = H at hP hS ⊢
  have hP : va_P (dC, dI) vwCl (mc_W0 h0 qc qm qr d ct0 mc_u0) H := hP
  have hD : va_D (fun q : Nat => s.heap.size ≤ q) (mc_W0 h0 qc qm qr d ct0 mc_u0) := hD
  have hK : va_K (dC, dI) vwCl [(d, .int)] s := hK1
  refine W.widen (k := 4) (n := 147) (by decide) (by decide) ?_
  refine lv_astore_n (lv' := [(1, .ref h0), (0, .ref b)]) hx hb dL_law_7 rfl hl (by decide) rfl (fun ls hl => ?_)
  refine va_new (ci := 1) (fs := [.null, .null, .int 0, .int 0, .int 0, .int 0]) (C := RX1) (T := TX1) (N := 6) hx hb hts in_X1 tyX1 tyX1_ok hown (hts _ q207) (hts _ q208) (hts _ q24) hK hP hD hS hA rfl (fun j hj => by rcases (show j = 0 ∨ j = 1 ∨ j = 2 ∨ j = 3 ∨ j = 4 ∨ j = 5 by omega) with rfl | rfl | rfl | rfl | rfl | rfl <;> rfl) (Nat.le_of_ble_eq_true rfl) (Nat.le_of_ble_eq_true rfl) dL_law_8 (fun g0 H hP hD hS => ?_)
  have hP : va_P (dC, dI) vwCl (mc_W0 h0 qc qm qr d ct0 mc_u0 ++ [(g0, .inr (1, [.null, .null, .int 0, .int 0, .int 0, .int 0]))]) H := hP
  have hD : va_D (fun q : Nat => s.heap.size ≤ q) (mc_W0 h0 qc qm qr d ct0 mc_u0 ++ [(g0, .inr (1, [.null, .null, .int 0, .int 0, .int 0, .int 0]))]) := hD
  refine W.widen (k := 5) (n := 153) (by decide) (by decide) ?_
  refine lv_dup hx hb dL_law_11 rfl ?_
  have hPc := hP.sub (ws' := [(g0, .inr (1, [.null, .null, .int 0, .int 0, .int 0, .int 0]))]) [4] rfl
  have hDc := hD.sub (ws' := [(g0, .inr (1, [.null, .null, .int 0, .int 0, .int 0, .int 0]))]) [4] (by decide) rfl
  have hKc := hK.sub (tys' := []) [] rfl
  have hFc := va_free (wc := [(g0, .inr (1, [.null, .null, .int 0, .int 0, .int 0, .int 0]))]) hD hS hA [4] rfl
  refine va_callv (va_runI (As := []) (rest := [.ref g0]) ⟨hx, hb, hml, hown, hts⟩ (met1_init l dC dI g0 H.size) (cwI 0 hts (lw_meth q211) rfl rfl rfl (hts _ q24) (hts _ q209) (hts _ q210) rfl (by decide +kernel) ⟨Nat.le_of_ble_eq_true rfl, Nat.le_of_ble_eq_true rfl⟩) ⟨fun a U g mk q => by obtain ⟨q0, q1, qP, qK, qD⟩ := q; exact ⟨q0, q1, qP, va_K.moved (u := U) (U := U.calling g mk a) (Vm.Alike.refl U.vm) qK, qD⟩, fun U hU hW => ⟨rfl, by rw [hU], by rw [hU]; exact hPc, va_K.moved hW.alike hKc, hDc.weaken (fun _ _ _ _ => trivial)⟩⟩ rfl rfl hl.1 rfl (lv_room (Nat.le_of_ble_eq_true rfl)) dL_law_12 ⟨Nat.le_of_ble_eq_true rfl, Nat.le_of_ble_eq_true rfl⟩) hS (fun q _ h => hFc q h) hFc (fun u t H1 locs ht hvm hw hB hz1 hk1 hS => ?_)
  obtain ⟨pr, pm, d', hP1, hK1, hD1⟩ := hB
  rw [ht] at hP1
  have hK1 := va_K.moved hvm.symm hK1
  obtain ⟨hP, hD⟩ := va_join (wr := mc_W0 h0 qc qm qr d ct0 mc_u0) (w1 := mc_W1 g0 pr pm d' mc_v0) hP hD [4] [0, 1, 2, 3] rfl rfl (by decide) (by decide) hk1 hFc hP1 hD1
  have hK : va_K (dC, dI) vwCl [(d, .int), (d', .int)] s := hK.app hK1
  generalize H1 = H at hP hS ⊢
  refine W.widen (k := 7) (n := 225) (by decide) (by decide) ?_
  refine lv_astore_n (lv' := [(2, .ref g0), (1, .ref h0), (0, .ref b)]) hx hb dL_law_15 rfl hl (by decide) rfl (fun ls hl => ?_)
  refine lv_iconst (v := 0) hx hb dL_law_16 (by decide) ?_
  refine lv_istore_n (lv' := [(3, .int (nI 0)), (2, .ref g0), (1, .ref h0), (0, .ref b)]) hx hb dL_law_17 rfl hl (by decide) rfl (fun ls hl => ?_)
  exact law_loop hL C0 hK (L + 2) 0 mc_u0 mc_v0 (by omega) (by omega) init_rel _ _ hP hD hS ls (lv_sub hl [3, 2, 1, 0] rfl)
set_option maxHeartbeats 4000000 in
theorem lw_walk (l : Launch) (b : Addr) (xs : List Int32) : MetFree l x (headSpec (Jvm.Cond.code x code maxLocals ret :: tables_1) room_1) (lw_P b xs) (fun _ _ _ _ _ => True) lw_Q := by
  refine MetFree.of_bodyS (code := code) (maxLocals := maxLocals) (ret := ret) (by decide) ?_ ?_
  · intro args s m h hn
    obtain ⟨meth, c, h1, h2, h3, h4, h5, h6, -, -⟩ := Cond.code_spec hn (atoms_spec (ws := Jvm.Cond.code x code maxLocals ret :: tables_1) h _ List.mem_cons_self)
    exact ⟨meth, c, h1, h2, h3, h4, h5, h6⟩
  · intro p e s m args below meth c s₁ B hml0 hP _
    obtain ⟨rfl, hx, hbd, hgv⟩ := hP
    obtain ⟨scr, harrAt, hlist, hof, hsmall⟩ := hx
    obtain ⟨hcb, hkn, -, -⟩ := State.arrayAt?_spec harrAt
    have hown : s.vm.findClass R_law = some m.cls := findClass_of_methodNamed B.named
    have hts0 : ∀ c ∈ (Jvm.Cond.code x code maxLocals ret :: tables_1), c.before #[Value.ref b] s = true := atoms_spec (ws := Jvm.Cond.code x code maxLocals ret :: tables_1) B.pre
    have hts : ∀ w ∈ lw_tbl, w.before #[Value.ref b] s = true := k2_hts_sels lw_privs (fun w hw => hts0 w (List.mem_cons_of_mem _ hw)) lw_privs_ok
    have hml : c.maxLocals = 4 := B.maxLocals_eq (hts0 _ List.mem_cons_self)
    have X₀ : Stand p l e room_1 s m #[Value.ref b] below meth c s₁ [] 0 0 := Stand.of_body B
    have hh0 : s₁.heap = s.heap := by rw [B.state]; rfl
    have hsz : scr.slots.size = xs.length := by rw [← Array.length_toList, hlist, List.length_map]
    have hval : ∀ j : Nat, j < xs.length → scr.slots[j]? = some (.int (xs.getD j 0)) := fun j hj => by
      rw [← Array.getElem?_toList, hlist]
      simp [hj]
    have hbl : b < s.heap.size := (Array.getElem?_eq_some_iff.mp hcb).1
    have hX : va_X b xs.length (fun j => xs.getD j 0) s s.heap := ⟨scr, hcb, hof, hkn, hsz, hval⟩
    have K : W p l e room_1 s m #[Value.ref b] below meth c s₁.heap [] 0 0 (lw_Z below #[Value.ref b] s) (entryFrame m ([Value.ref b] : List Value).toArray 4) := by
      rw [hh0]
      exact whole_start l hbd ⟨B.exec, B.bytes, B.returns, hml, hown, hts, hX, hbl, B.notSynchronized, hgv⟩
    obtain ⟨t, a1, o, b1, b2, b3⟩ := K s₁ rfl X₀
    exact ⟨t, o, a1, b1, b2, b3⟩
theorem lw_pre_spec {args : Array Value} {s : State} (h : (Jvm.Cond.and given_1 narrow_1).before args s = true) (hr : rest_1_c.before args s = true) : ∃ (b : Addr) (xs : List Int32), lw_P b xs args s := by
  have hs := flat_of_before _ h
  have hq := flat_of_before _ hr
  have hc : (Cond.count 1).before args s = true := hs _ (by decide +kernel)
  have harr : (Cond.arrayOf (.arg 0) .int).before args s = true := hs _ (by decide +kernel)
  have hle : (Cond.le (.length (.arg 0)) (.int 192)).before args s = true := hs _ (by decide +kernel)
  have hlen : (Cond.isInt (.length (.arg 0))).before args s = true := hq _ (by decide +kernel)
  have hall : (Cond.all (.arg 0) (.isInt (.elem (.arg 0) (.index 0)))).before args s = true := hq _ (by decide +kernel)
  obtain ⟨b, xs, hb, hx⟩ := State.ints_of_pre rfl harr hlen hall
  have hsm : xs.length < 2 ^ 31 := hx.choose_spec.2.2.2
  have hev : (Term.length (.arg 0)).eval args s none [] s = some (.int xs.length.toInt32) := hx.length_eval hb
  have hv := Cond.le_ints hev (show (Term.int 192).eval args s none [] s = some (.int 192) from rfl)
  have hd : xs.length.toInt32 ≤ 192 := by
    simpa [Cond.before, Cond.holds, hv] using hle
  have hN : xs.length ≤ 192 := (Int32.ofNat_le_ofNat hsm (by decide)).mp (show Int32.ofNat xs.length ≤ Int32.ofNat 192 from hd)
  exact ⟨b, xs, Cond.one_arg hc (show args[0]? = some (.ref b) from hb), hx, hN, h⟩
theorem lw_comes (l : Launch) : Comes l x (Jvm.Cond.code x code maxLocals ret :: tables_1) room_1 (fun tb e args s => Calls_1 tb e args s ∧ rest_1 tb e args s ∧ Pre_1 tb e args s)
    (fun _ _ args s o t => lw_Q args s o t) := by
  intro p e ha hc hk s m args below hf hfit hheap happ hpre
  obtain ⟨b, xs, hP⟩ := lw_pre_spec hpre.2.2 hpre.2.1
  obtain ⟨k, o, h1, h2, h3, hQ⟩ := lw_walk l b xs p e ha hc hk s m args below hf ((Spec.applies_iff_loose hf).mp happ).1 hP trivial
  exact ⟨k, o, h1, h2, h3, hQ⟩
theorem lw_frame {s t : State} {o : Outcome} {args : Array Value} (h : Framed s o t [] 600000 7290000) :
    Framed s o t (fieldLocs frame_1_writes args s ++ arrayLocs frame_1_arrays args s ++ staticLocs frame_1_statics s) 600000 7290000 := h
theorem lw_limb (L : Cond) (hL : ∀ (args : Array Value) (s t : State), L.after args s (.returned (some (.int 1))) t = true) :
    ArmFor flags0 classFile x code maxLocals ret World_1 tables_1 room_1 Calls_1 rest_1 Pre_1
      (fun tb e a s o t => postC L tb e a s o t ∧ Framed s o t (fieldLocs frame_1_writes a s ++ arrayLocs frame_1_arrays a s ++ staticLocs frame_1_statics s) 600000 7290000) := by
  intro l _ _ _ p e ha hc hk s m args below hf hfit hheap happ hpre
  obtain ⟨k, o, h1, h2, h3, rfl, hF⟩ := lw_comes l p e ha hc hk s m args below hf hfit hheap happ hpre
  exact ⟨k, _, h1, h2, h3, hL args s _, lw_frame hF⟩
theorem i_vc : Claimed_1_1 ∧ Claimed_1_2 := ⟨lw_limb limb_1_1 (fun args s t => by simp [limb_1_1, Cond.after, Cond.holds, Cond.value]), lw_limb limb_1_2 (fun args s t => Cond.after_iff.mpr (by
  first | (rw [show limb_1_2 = Cond.eq .result (.int 1) from rfl, Cond.eq_ints (x := 1) (y := 1) rfl rfl]; simp; done) | (simp [limb_1_2, Cond.value, Term.eval]; done)))⟩
end
