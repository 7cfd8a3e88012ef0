section
-- ===== PART A: goes FIRST, ahead of the names: the tables' words, and 'selects' of the private methods out of them =====
/-- a private method of a class that the tables say can be made, by its rows of tables_1 -/
def lw_okq (q : MethodName × Nat) : Prop := (q.1.cls ≠ "java/lang/invoke/MethodHandle" ∧ q.1.cls ≠ "java/lang/invoke/VarHandle") ∧ Cond.instantiable q.1.cls q.2 ∈ tables_1 ∧ Cond.privateMethod q.1 ∈ tables_1 ∧ Cond.instanceMethod q.1 ∈ tables_1
set_option maxRecDepth 100000
theorem lw_t1 {w : Cond} (h : w ∈ tables_1_1) : w ∈ tables_1 := List.mem_append_left _ h
theorem lw_t2 {w : Cond} (h : w ∈ tables_1_2) : w ∈ tables_1 := List.mem_append_right _ h
theorem lw_p0 : lw_okq (⟨"SelectorGc", "isSequence", "(I)Z"⟩, 16) := ⟨⟨by decide +kernel, by decide +kernel⟩, lw_t1 (List.mem_of_getElem? (i := 4) rfl), lw_t1 (List.mem_of_getElem? (i := 69) rfl), lw_t1 (List.mem_of_getElem? (i := 70) rfl)⟩
theorem lw_p1 : lw_okq (⟨"SelectorGc", "worksOnA", "(I)Z"⟩, 16) := ⟨⟨by decide +kernel, by decide +kernel⟩, lw_t1 (List.mem_of_getElem? (i := 4) rfl), lw_t1 (List.mem_of_getElem? (i := 73) rfl), lw_t1 (List.mem_of_getElem? (i := 74) rfl)⟩
theorem lw_p2 : lw_okq (⟨"SelectorGc", "worksOnB", "(I)Z"⟩, 16) := ⟨⟨by decide +kernel, by decide +kernel⟩, lw_t1 (List.mem_of_getElem? (i := 4) rfl), lw_t1 (List.mem_of_getElem? (i := 77) rfl), lw_t1 (List.mem_of_getElem? (i := 78) rfl)⟩
theorem lw_p3 : lw_okq (⟨"SelectorGc", "reach", "(II)I"⟩, 16) := ⟨⟨by decide +kernel, by decide +kernel⟩, lw_t1 (List.mem_of_getElem? (i := 4) rfl), lw_t1 (List.mem_of_getElem? (i := 85) rfl), lw_t1 (List.mem_of_getElem? (i := 86) rfl)⟩
theorem lw_p4 : lw_okq (⟨"SelectorGc", "build", "()V"⟩, 16) := ⟨⟨by decide +kernel, by decide +kernel⟩, lw_t1 (List.mem_of_getElem? (i := 4) rfl), lw_t1 (List.mem_of_getElem? (i := 89) rfl), lw_t1 (List.mem_of_getElem? (i := 90) rfl)⟩
theorem lw_p5 : lw_okq (⟨"SelectorGc", "allocate", "(IIIII)I"⟩, 16) := ⟨⟨by decide +kernel, by decide +kernel⟩, lw_t1 (List.mem_of_getElem? (i := 4) rfl), lw_t1 (List.mem_of_getElem? (i := 93) rfl), lw_t1 (List.mem_of_getElem? (i := 94) rfl)⟩
theorem lw_p6 : lw_okq (⟨"SelectorGc", "force", "(I)I"⟩, 16) := ⟨⟨by decide +kernel, by decide +kernel⟩, lw_t1 (List.mem_of_getElem? (i := 4) rfl), lw_t1 (List.mem_of_getElem? (i := 97) rfl), lw_t1 (List.mem_of_getElem? (i := 98) rfl)⟩
theorem lw_p7 : lw_okq (⟨"SelectorGc", "push", "(I)V"⟩, 16) := ⟨⟨by decide +kernel, by decide +kernel⟩, lw_t1 (List.mem_of_getElem? (i := 4) rfl), lw_t1 (List.mem_of_getElem? (i := 101) rfl), lw_t1 (List.mem_of_getElem? (i := 102) rfl)⟩
theorem lw_p8 : lw_okq (⟨"SelectorGc", "collect", "()V"⟩, 16) := ⟨⟨by decide +kernel, by decide +kernel⟩, lw_t1 (List.mem_of_getElem? (i := 4) rfl), lw_t1 (List.mem_of_getElem? (i := 105) rfl), lw_t1 (List.mem_of_getElem? (i := 106) rfl)⟩
theorem lw_p9 : lw_okq (⟨"SelectorGc", "moved", "(I)I"⟩, 16) := ⟨⟨by decide +kernel, by decide +kernel⟩, lw_t1 (List.mem_of_getElem? (i := 4) rfl), lw_t1 (List.mem_of_getElem? (i := 109) rfl), lw_t1 (List.mem_of_getElem? (i := 110) rfl)⟩
theorem lw_p10 : lw_okq (⟨"SelectorGc", "shortcut", "(I)I"⟩, 16) := ⟨⟨by decide +kernel, by decide +kernel⟩, lw_t1 (List.mem_of_getElem? (i := 4) rfl), lw_t1 (List.mem_of_getElem? (i := 113) rfl), lw_t1 (List.mem_of_getElem? (i := 114) rfl)⟩
theorem lw_p11 : lw_okq (⟨"SelectorGc", "follow", "(I)I"⟩, 16) := ⟨⟨by decide +kernel, by decide +kernel⟩, lw_t1 (List.mem_of_getElem? (i := 4) rfl), lw_t1 (List.mem_of_getElem? (i := 117) rfl), lw_t1 (List.mem_of_getElem? (i := 118) rfl)⟩
theorem lw_p12 : lw_okq (⟨"SelectorGc", "wantedBy", "(I)I"⟩, 16) := ⟨⟨by decide +kernel, by decide +kernel⟩, lw_t1 (List.mem_of_getElem? (i := 4) rfl), lw_t1 (List.mem_of_getElem? (i := 121) rfl), lw_t1 (List.mem_of_getElem? (i := 122) rfl)⟩
theorem lw_p13 : lw_okq (⟨"SelectorGc", "finish", "(I)V"⟩, 16) := ⟨⟨by decide +kernel, by decide +kernel⟩, lw_t1 (List.mem_of_getElem? (i := 4) rfl), lw_t1 (List.mem_of_getElem? (i := 125) rfl), lw_t1 (List.mem_of_getElem? (i := 126) rfl)⟩
theorem lw_p14 : lw_okq (⟨"SelectorGc", "headOfTwo", "(III)I"⟩, 16) := ⟨⟨by decide +kernel, by decide +kernel⟩, lw_t1 (List.mem_of_getElem? (i := 4) rfl), lw_t1 (List.mem_of_getElem? (i := 129) rfl), lw_t1 (List.mem_of_getElem? (i := 130) rfl)⟩
theorem lw_p15 : lw_okq (⟨"SelectorGc", "restOfTwo", "(III)I"⟩, 16) := ⟨⟨by decide +kernel, by decide +kernel⟩, lw_t1 (List.mem_of_getElem? (i := 4) rfl), lw_t1 (List.mem_of_getElem? (i := 133) rfl), lw_t1 (List.mem_of_getElem? (i := 134) rfl)⟩
def lw_privs_1 : List (MethodName × Nat) := [(⟨"SelectorGc", "isSequence", "(I)Z"⟩, 16), (⟨"SelectorGc", "worksOnA", "(I)Z"⟩, 16), (⟨"SelectorGc", "worksOnB", "(I)Z"⟩, 16), (⟨"SelectorGc", "reach", "(II)I"⟩, 16), (⟨"SelectorGc", "build", "()V"⟩, 16), (⟨"SelectorGc", "allocate", "(IIIII)I"⟩, 16), (⟨"SelectorGc", "force", "(I)I"⟩, 16), (⟨"SelectorGc", "push", "(I)V"⟩, 16), (⟨"SelectorGc", "collect", "()V"⟩, 16), (⟨"SelectorGc", "moved", "(I)I"⟩, 16), (⟨"SelectorGc", "shortcut", "(I)I"⟩, 16), (⟨"SelectorGc", "follow", "(I)I"⟩, 16), (⟨"SelectorGc", "wantedBy", "(I)I"⟩, 16), (⟨"SelectorGc", "finish", "(I)V"⟩, 16), (⟨"SelectorGc", "headOfTwo", "(III)I"⟩, 16), (⟨"SelectorGc", "restOfTwo", "(III)I"⟩, 16)]
theorem lw_r1 : ∀ q ∈ lw_privs_1, lw_okq q := List.forall_mem_cons.mpr ⟨lw_p0, List.forall_mem_cons.mpr ⟨lw_p1, List.forall_mem_cons.mpr ⟨lw_p2, List.forall_mem_cons.mpr ⟨lw_p3, List.forall_mem_cons.mpr ⟨lw_p4, List.forall_mem_cons.mpr ⟨lw_p5, List.forall_mem_cons.mpr ⟨lw_p6, List.forall_mem_cons.mpr ⟨lw_p7, List.forall_mem_cons.mpr ⟨lw_p8, List.forall_mem_cons.mpr ⟨lw_p9, List.forall_mem_cons.mpr ⟨lw_p10, List.forall_mem_cons.mpr ⟨lw_p11, List.forall_mem_cons.mpr ⟨lw_p12, List.forall_mem_cons.mpr ⟨lw_p13, List.forall_mem_cons.mpr ⟨lw_p14, List.forall_mem_cons.mpr ⟨lw_p15, fun _ h => absurd h List.not_mem_nil⟩⟩⟩⟩⟩⟩⟩⟩⟩⟩⟩⟩⟩⟩⟩⟩
theorem lw_p16 : lw_okq (⟨"SelectorGc", "giveUp", "()V"⟩, 16) := ⟨⟨by decide +kernel, by decide +kernel⟩, lw_t1 (List.mem_of_getElem? (i := 4) rfl), lw_t1 (List.mem_of_getElem? (i := 137) rfl), lw_t1 (List.mem_of_getElem? (i := 138) rfl)⟩
theorem lw_p17 : lw_okq (⟨"SelectorGcModel", "isSequence", "(I)Z"⟩, 7) := ⟨⟨by decide +kernel, by decide +kernel⟩, lw_t1 (List.mem_of_getElem? (i := 165) rfl), lw_t1 (List.mem_of_getElem? (i := 197) rfl), lw_t1 (List.mem_of_getElem? (i := 198) rfl)⟩
theorem lw_p18 : lw_okq (⟨"SelectorGcModel", "namesA", "(I)Z"⟩, 7) := ⟨⟨by decide +kernel, by decide +kernel⟩, lw_t1 (List.mem_of_getElem? (i := 165) rfl), lw_t1 (List.mem_of_getElem? (i := 201) rfl), lw_t1 (List.mem_of_getElem? (i := 202) rfl)⟩
theorem lw_p19 : lw_okq (⟨"SelectorGcModel", "namesB", "(I)Z"⟩, 7) := ⟨⟨by decide +kernel, by decide +kernel⟩, lw_t1 (List.mem_of_getElem? (i := 165) rfl), lw_t1 (List.mem_of_getElem? (i := 205) rfl), lw_t1 (List.mem_of_getElem? (i := 206) rfl)⟩
theorem lw_p20 : lw_okq (⟨"SelectorGcModel", "asked", "(II)Z"⟩, 7) := ⟨⟨by decide +kernel, by decide +kernel⟩, lw_t1 (List.mem_of_getElem? (i := 165) rfl), lw_t1 (List.mem_of_getElem? (i := 213) rfl), lw_t1 (List.mem_of_getElem? (i := 214) rfl)⟩
theorem lw_p21 : lw_okq (⟨"SelectorGcModel", "fill", "()V"⟩, 7) := ⟨⟨by decide +kernel, by decide +kernel⟩, lw_t1 (List.mem_of_getElem? (i := 165) rfl), lw_t1 (List.mem_of_getElem? (i := 217) rfl), lw_t1 (List.mem_of_getElem? (i := 218) rfl)⟩
theorem lw_p22 : lw_okq (⟨"SelectorGcModel", "sweep", "()Z"⟩, 7) := ⟨⟨by decide +kernel, by decide +kernel⟩, lw_t1 (List.mem_of_getElem? (i := 165) rfl), lw_t1 (List.mem_of_getElem? (i := 221) rfl), lw_t1 (List.mem_of_getElem? (i := 222) rfl)⟩
theorem lw_p23 : lw_okq (⟨"SelectorGcModel", "needsMet", "(II)Z"⟩, 7) := ⟨⟨by decide +kernel, by decide +kernel⟩, lw_t1 (List.mem_of_getElem? (i := 165) rfl), lw_t1 (List.mem_of_getElem? (i := 225) rfl), lw_t1 (List.mem_of_getElem? (i := 226) rfl)⟩
theorem lw_p24 : lw_okq (⟨"SelectorGcModel", "hasAt", "(II)Z"⟩, 7) := ⟨⟨by decide +kernel, by decide +kernel⟩, lw_t1 (List.mem_of_getElem? (i := 165) rfl), lw_t1 (List.mem_of_getElem? (i := 229) rfl), lw_t1 (List.mem_of_getElem? (i := 230) rfl)⟩
theorem lw_p25 : lw_okq (⟨"SelectorGcModel", "walk", "(II)V"⟩, 7) := ⟨⟨by decide +kernel, by decide +kernel⟩, lw_t1 (List.mem_of_getElem? (i := 165) rfl), lw_t1 (List.mem_of_getElem? (i := 233) rfl), lw_t1 (List.mem_of_getElem? (i := 234) rfl)⟩
theorem lw_p26 : lw_okq (⟨"SelectorGcModel", "at", "(II)I"⟩, 7) := ⟨⟨by decide +kernel, by decide +kernel⟩, lw_t1 (List.mem_of_getElem? (i := 165) rfl), lw_t1 (List.mem_of_getElem? (i := 237) rfl), lw_t1 (List.mem_of_getElem? (i := 238) rfl)⟩
theorem lw_p27 : lw_okq (⟨"SelectorGcModel", "worth", "(II)I"⟩, 7) := ⟨⟨by decide +kernel, by decide +kernel⟩, lw_t1 (List.mem_of_getElem? (i := 165) rfl), lw_t2 (List.mem_of_getElem? (i := 1) rfl), lw_t2 (List.mem_of_getElem? (i := 2) rfl)⟩
def lw_privs_2 : List (MethodName × Nat) := [(⟨"SelectorGc", "giveUp", "()V"⟩, 16), (⟨"SelectorGcModel", "isSequence", "(I)Z"⟩, 7), (⟨"SelectorGcModel", "namesA", "(I)Z"⟩, 7), (⟨"SelectorGcModel", "namesB", "(I)Z"⟩, 7), (⟨"SelectorGcModel", "asked", "(II)Z"⟩, 7), (⟨"SelectorGcModel", "fill", "()V"⟩, 7), (⟨"SelectorGcModel", "sweep", "()Z"⟩, 7), (⟨"SelectorGcModel", "needsMet", "(II)Z"⟩, 7), (⟨"SelectorGcModel", "hasAt", "(II)Z"⟩, 7), (⟨"SelectorGcModel", "walk", "(II)V"⟩, 7), (⟨"SelectorGcModel", "at", "(II)I"⟩, 7), (⟨"SelectorGcModel", "worth", "(II)I"⟩, 7)]
theorem lw_r2 : ∀ q ∈ lw_privs_2, lw_okq q := List.forall_mem_cons.mpr ⟨lw_p16, List.forall_mem_cons.mpr ⟨lw_p17, List.forall_mem_cons.mpr ⟨lw_p18, List.forall_mem_cons.mpr ⟨lw_p19, List.forall_mem_cons.mpr ⟨lw_p20, List.forall_mem_cons.mpr ⟨lw_p21, List.forall_mem_cons.mpr ⟨lw_p22, List.forall_mem_cons.mpr ⟨lw_p23, List.forall_mem_cons.mpr ⟨lw_p24, List.forall_mem_cons.mpr ⟨lw_p25, List.forall_mem_cons.mpr ⟨lw_p26, List.forall_mem_cons.mpr ⟨lw_p27, fun _ h => absurd h List.not_mem_nil⟩⟩⟩⟩⟩⟩⟩⟩⟩⟩⟩⟩
def lw_privs : List (MethodName × Nat) := lw_privs_1 ++ (lw_privs_2)
def lw_tbl : List Cond := k2_sels lw_privs ++ tables_1
theorem lw_privs_ok : ∀ q ∈ lw_privs, lw_okq q := by
  show ∀ q ∈ lw_privs_1 ++ (lw_privs_2), lw_okq q
  exact List.forall_mem_append.mpr ⟨lw_r1, lw_r2⟩
-- ===== ONE list of words for every method: the tables' words that hold all through a run =====
def lw_all : List Cond := lw_tbl.filter goodWord
/-- a word of the tables by its place: claim/WORDS.tsv -/
theorem lw_w {w : Cond} (i : Nat) (h : lw_tbl[i]? = some w) (g : goodWord w = true) : w ∈ lw_all := List.mem_filter.mpr ⟨List.mem_of_getElem? h, g⟩
theorem lw_all_tbl {w : Cond} (h : w ∈ lw_all) : w ∈ lw_tbl := (List.mem_filter.mp h).1
theorem lw_self : GoodIn lw_all lw_all := fun w h => ⟨h, good_of_word (List.mem_filter.mp h).2⟩
/-- a class's field words, by their places -/
theorem lw_in (ws : List Cond) (ps : List Nat) (hp : ws = ps.filterMap (fun i => lw_tbl[i]?)) (hg : ws.all goodWord = true) : ∀ w ∈ ws, w ∈ lw_all := by
  intro w h
  have h1 := List.all_eq_true.mp hg w h
  rw [hp] at h
  obtain ⟨i, -, hi⟩ := List.mem_filterMap.mp h
  exact lw_w i hi h1
/-- the words of a contract for the method y with code b, L locals, answer r -/
abbrev ws_ (y : MethodName) (b : ByteArray) (L : Nat) (r : Option FieldType) : List Cond := Cond.code y b L r :: lw_all
theorem lw_meth {y : MethodName} {b : ByteArray} {L : Nat} {r : Option FieldType} (h : Cond.code y b L r ∈ lw_all) : GoodIn lw_all (ws_ y b L r) := by
  intro w hw
  rcases List.mem_cons.mp hw with e | e
  · rw [e]
    exact lw_self _ h
  · exact lw_self _ e
theorem lw_app {a c : List Cond} (ha : ∀ w ∈ a, w ∈ lw_all) (hc : GoodIn lw_all c) : GoodIn lw_all (a ++ c) := by
  intro w hw
  rcases List.mem_append.mp hw with e | e
  · exact lw_self w (ha w e)
  · exact hc w e
/-- what a call through an object asks: cwV n hts (lw_V ..) -/
theorem lw_V {own : String} {idx : Nat} {C : String} {y : MethodName} {b : ByteArray} {L : Nat} {r : Option FieldType} (h1 : Cond.methodLink own idx y ∈ lw_all) (h2 : Cond.instanceMethod y ∈ lw_all) (h3 : Cond.selects C y y ∈ lw_all) (h4 : Cond.initialized C ∈ lw_all) (h5 : Cond.code y b L r ∈ lw_all) : GoodIn lw_all (wsV own idx C y (ws_ y b L r)) := by
  refine lw_app ?_ (lw_meth h5)
  intro w hw
  simp only [List.mem_cons, List.not_mem_nil, or_false] at hw
  rcases hw with e | e | e | e
  · rw [e]; exact h1
  · rw [e]; exact h2
  · rw [e]; exact h3
  · rw [e]; exact h4
/-- what a static call asks: va_cwS n hts (lw_S ..) -/
theorem lw_S {own : String} {idx : Nat} {y : MethodName} {b : ByteArray} {L : Nat} {r : Option FieldType} (h1 : Cond.methodLink own idx y ∈ lw_all) (h2 : Cond.static y ∈ lw_all) (h3 : Cond.initialized y.cls ∈ lw_all) (h4 : Cond.code y b L r ∈ lw_all) : GoodIn lw_all (va_wsS own idx y (ws_ y b L r)) := by
  refine lw_app ?_ (lw_meth h4)
  intro w hw
  simp only [List.mem_cons, List.not_mem_nil, or_false] at hw
  rcases hw with e | e | e
  · rw [e]; exact h1
  · rw [e]; exact h2
  · rw [e]; exact h3
/-- the words of a contract for a method WITH HANDLERS (hh: its table) -/
abbrev wsW_ (y : MethodName) (b : ByteArray) (L : Nat) (r : Option FieldType) (hh : List (Nat × Nat × Nat × Nat)) : List Cond := Cond.codeWith y b L r hh :: lw_all
theorem lw_methW {y : MethodName} {b : ByteArray} {L : Nat} {r : Option FieldType} {hh : List (Nat × Nat × Nat × Nat)} (h : Cond.codeWith y b L r hh ∈ lw_all) : GoodIn lw_all (wsW_ y b L r hh) := by
  intro w hw
  rcases List.mem_cons.mp hw with e | e
  · rw [e]
    exact lw_self _ h
  · exact lw_self _ e
/-- any list of words by their places (lw_in), good -/
theorem lw_good {ws : List Cond} (h : ∀ w ∈ ws, w ∈ lw_all) : GoodIn lw_all ws := fun w hw => lw_self w (h w hw)
/-- what a call of a method with handlers asks: vx_cwVW n hts (lw_VW ..), vx_cwSW n hts (lw_SW ..) -/
theorem lw_VW {own : String} {idx : Nat} {C : String} {y : MethodName} {b : ByteArray} {L : Nat} {r : Option FieldType} {hh : List (Nat × Nat × Nat × Nat)} (h1 : Cond.methodLink own idx y ∈ lw_all) (h2 : Cond.instanceMethod y ∈ lw_all) (h3 : Cond.selects C y y ∈ lw_all) (h4 : Cond.initialized C ∈ lw_all) (h5 : Cond.codeWith y b L r hh ∈ lw_all) : GoodIn lw_all (wsV own idx C y (wsW_ y b L r hh)) := by
  refine lw_app ?_ (lw_methW h5)
  intro w hw
  simp only [List.mem_cons, List.not_mem_nil, or_false] at hw
  rcases hw with e | e | e | e
  · rw [e]; exact h1
  · rw [e]; exact h2
  · rw [e]; exact h3
  · rw [e]; exact h4
theorem lw_SW {own : String} {idx : Nat} {y : MethodName} {b : ByteArray} {L : Nat} {r : Option FieldType} {hh : List (Nat × Nat × Nat × Nat)} (h1 : Cond.methodLink own idx y ∈ lw_all) (h2 : Cond.static y ∈ lw_all) (h3 : Cond.initialized y.cls ∈ lw_all) (h4 : Cond.codeWith y b L r hh ∈ lw_all) : GoodIn lw_all (va_wsS own idx y (wsW_ y b L r hh)) := by
  refine lw_app ?_ (lw_methW h4)
  intro w hw
  simp only [List.mem_cons, List.not_mem_nil, or_false] at hw
  rcases hw with e | e | e
  · rw [e]; exact h1
  · rw [e]; exact h2
  · rw [e]; exact h3
/-- a word by its place in its run of the tables -/
theorem lw_at {r : List Cond} (hr : ∀ w ∈ r, w ∈ lw_tbl) {w : Cond} (i : Nat) (h : r[i]? = some w) : w ∈ lw_tbl := hr w (List.mem_of_getElem? h)
theorem lw_g {w : Cond} (h : w ∈ lw_tbl) (g : goodWord w = true) : w ∈ lw_all := List.mem_filter.mpr ⟨h, g⟩
theorem lw_ms : ∀ w ∈ k2_sels lw_privs, w ∈ lw_tbl := fun w h => show w ∈ k2_sels lw_privs ++ tables_1 from List.mem_append_left _ h
theorem lw_m1 : ∀ w ∈ tables_1_1, w ∈ lw_tbl := fun w h => show w ∈ k2_sels lw_privs ++ tables_1 from List.mem_append_right (k2_sels lw_privs) (show w ∈ tables_1 from List.mem_append_left _ h)
theorem lw_m2 : ∀ w ∈ tables_1_2, w ∈ lw_tbl := fun w h => show w ∈ k2_sels lw_privs ++ tables_1 from List.mem_append_right (k2_sels lw_privs) (show w ∈ tables_1 from List.mem_append_right _ h)
theorem qs0 : (Cond.selects "SelectorGc" ⟨"SelectorGc", "isSequence", "(I)Z"⟩ ⟨"SelectorGc", "isSequence", "(I)Z"⟩) ∈ lw_all := lw_g (lw_at lw_ms 0 rfl) rfl
theorem qs1 : (Cond.selects "SelectorGc" ⟨"SelectorGc", "worksOnA", "(I)Z"⟩ ⟨"SelectorGc", "worksOnA", "(I)Z"⟩) ∈ lw_all := lw_g (lw_at lw_ms 1 rfl) rfl
theorem qs2 : (Cond.selects "SelectorGc" ⟨"SelectorGc", "worksOnB", "(I)Z"⟩ ⟨"SelectorGc", "worksOnB", "(I)Z"⟩) ∈ lw_all := lw_g (lw_at lw_ms 2 rfl) rfl
theorem qs3 : (Cond.selects "SelectorGc" ⟨"SelectorGc", "reach", "(II)I"⟩ ⟨"SelectorGc", "reach", "(II)I"⟩) ∈ lw_all := lw_g (lw_at lw_ms 3 rfl) rfl
theorem qs4 : (Cond.selects "SelectorGc" ⟨"SelectorGc", "build", "()V"⟩ ⟨"SelectorGc", "build", "()V"⟩) ∈ lw_all := lw_g (lw_at lw_ms 4 rfl) rfl
theorem qs5 : (Cond.selects "SelectorGc" ⟨"SelectorGc", "allocate", "(IIIII)I"⟩ ⟨"SelectorGc", "allocate", "(IIIII)I"⟩) ∈ lw_all := lw_g (lw_at lw_ms 5 rfl) rfl
theorem qs6 : (Cond.selects "SelectorGc" ⟨"SelectorGc", "force", "(I)I"⟩ ⟨"SelectorGc", "force", "(I)I"⟩) ∈ lw_all := lw_g (lw_at lw_ms 6 rfl) rfl
theorem qs7 : (Cond.selects "SelectorGc" ⟨"SelectorGc", "push", "(I)V"⟩ ⟨"SelectorGc", "push", "(I)V"⟩) ∈ lw_all := lw_g (lw_at lw_ms 7 rfl) rfl
theorem qs8 : (Cond.selects "SelectorGc" ⟨"SelectorGc", "collect", "()V"⟩ ⟨"SelectorGc", "collect", "()V"⟩) ∈ lw_all := lw_g (lw_at lw_ms 8 rfl) rfl
theorem qs9 : (Cond.selects "SelectorGc" ⟨"SelectorGc", "moved", "(I)I"⟩ ⟨"SelectorGc", "moved", "(I)I"⟩) ∈ lw_all := lw_g (lw_at lw_ms 9 rfl) rfl
theorem qs10 : (Cond.selects "SelectorGc" ⟨"SelectorGc", "shortcut", "(I)I"⟩ ⟨"SelectorGc", "shortcut", "(I)I"⟩) ∈ lw_all := lw_g (lw_at lw_ms 10 rfl) rfl
theorem qs11 : (Cond.selects "SelectorGc" ⟨"SelectorGc", "follow", "(I)I"⟩ ⟨"SelectorGc", "follow", "(I)I"⟩) ∈ lw_all := lw_g (lw_at lw_ms 11 rfl) rfl
theorem qs12 : (Cond.selects "SelectorGc" ⟨"SelectorGc", "wantedBy", "(I)I"⟩ ⟨"SelectorGc", "wantedBy", "(I)I"⟩) ∈ lw_all := lw_g (lw_at lw_ms 12 rfl) rfl
theorem qs13 : (Cond.selects "SelectorGc" ⟨"SelectorGc", "finish", "(I)V"⟩ ⟨"SelectorGc", "finish", "(I)V"⟩) ∈ lw_all := lw_g (lw_at lw_ms 13 rfl) rfl
theorem qs14 : (Cond.selects "SelectorGc" ⟨"SelectorGc", "headOfTwo", "(III)I"⟩ ⟨"SelectorGc", "headOfTwo", "(III)I"⟩) ∈ lw_all := lw_g (lw_at lw_ms 14 rfl) rfl
theorem qs15 : (Cond.selects "SelectorGc" ⟨"SelectorGc", "restOfTwo", "(III)I"⟩ ⟨"SelectorGc", "restOfTwo", "(III)I"⟩) ∈ lw_all := lw_g (lw_at lw_ms 15 rfl) rfl
theorem qs16 : (Cond.selects "SelectorGc" ⟨"SelectorGc", "giveUp", "()V"⟩ ⟨"SelectorGc", "giveUp", "()V"⟩) ∈ lw_all := lw_g (lw_at lw_ms 16 rfl) rfl
theorem qs17 : (Cond.selects "SelectorGcModel" ⟨"SelectorGcModel", "isSequence", "(I)Z"⟩ ⟨"SelectorGcModel", "isSequence", "(I)Z"⟩) ∈ lw_all := lw_g (lw_at lw_ms 17 rfl) rfl
theorem qs18 : (Cond.selects "SelectorGcModel" ⟨"SelectorGcModel", "namesA", "(I)Z"⟩ ⟨"SelectorGcModel", "namesA", "(I)Z"⟩) ∈ lw_all := lw_g (lw_at lw_ms 18 rfl) rfl
theorem qs19 : (Cond.selects "SelectorGcModel" ⟨"SelectorGcModel", "namesB", "(I)Z"⟩ ⟨"SelectorGcModel", "namesB", "(I)Z"⟩) ∈ lw_all := lw_g (lw_at lw_ms 19 rfl) rfl
theorem qs20 : (Cond.selects "SelectorGcModel" ⟨"SelectorGcModel", "asked", "(II)Z"⟩ ⟨"SelectorGcModel", "asked", "(II)Z"⟩) ∈ lw_all := lw_g (lw_at lw_ms 20 rfl) rfl
theorem qs21 : (Cond.selects "SelectorGcModel" ⟨"SelectorGcModel", "fill", "()V"⟩ ⟨"SelectorGcModel", "fill", "()V"⟩) ∈ lw_all := lw_g (lw_at lw_ms 21 rfl) rfl
theorem qs22 : (Cond.selects "SelectorGcModel" ⟨"SelectorGcModel", "sweep", "()Z"⟩ ⟨"SelectorGcModel", "sweep", "()Z"⟩) ∈ lw_all := lw_g (lw_at lw_ms 22 rfl) rfl
theorem qs23 : (Cond.selects "SelectorGcModel" ⟨"SelectorGcModel", "needsMet", "(II)Z"⟩ ⟨"SelectorGcModel", "needsMet", "(II)Z"⟩) ∈ lw_all := lw_g (lw_at lw_ms 23 rfl) rfl
theorem qs24 : (Cond.selects "SelectorGcModel" ⟨"SelectorGcModel", "hasAt", "(II)Z"⟩ ⟨"SelectorGcModel", "hasAt", "(II)Z"⟩) ∈ lw_all := lw_g (lw_at lw_ms 24 rfl) rfl
theorem qs25 : (Cond.selects "SelectorGcModel" ⟨"SelectorGcModel", "walk", "(II)V"⟩ ⟨"SelectorGcModel", "walk", "(II)V"⟩) ∈ lw_all := lw_g (lw_at lw_ms 25 rfl) rfl
theorem qs26 : (Cond.selects "SelectorGcModel" ⟨"SelectorGcModel", "at", "(II)I"⟩ ⟨"SelectorGcModel", "at", "(II)I"⟩) ∈ lw_all := lw_g (lw_at lw_ms 26 rfl) rfl
theorem qs27 : (Cond.selects "SelectorGcModel" ⟨"SelectorGcModel", "worth", "(II)I"⟩ ⟨"SelectorGcModel", "worth", "(II)I"⟩) ∈ lw_all := lw_g (lw_at lw_ms 27 rfl) rfl
end
section
/-! SelectorGc -/
set_option maxRecDepth 100000
def RX0 : String := "SelectorGc"
def TX0 : u_T := fun k => match k with
  | 0 => ("SelectorGc", "definedAs", "[B", true)
  | 1 => ("SelectorGc", "definedA", "[I", true)
  | 2 => ("SelectorGc", "definedB", "[I", true)
  | 3 => ("SelectorGc", "built", "Z", false)
  | 4 => ("SelectorGc", "base", "I", false)
  | 5 => ("SelectorGc", "top", "I", false)
  | 6 => ("SelectorGc", "sort", "[B", true)
  | 7 => ("SelectorGc", "number", "[I", true)
  | 8 => ("SelectorGc", "step", "[I", true)
  | 9 => ("SelectorGc", "left", "[S", true)
  | 10 => ("SelectorGc", "right", "[S", true)
  | 11 => ("SelectorGc", "busy", "[Z", true)
  | 12 => ("SelectorGc", "movedTo", "[S", true)
  | 13 => ("SelectorGc", "root", "[S", true)
  | 14 => ("SelectorGc", "stack", "[S", true)
  | _ => ("SelectorGc", "stackTop", "I", false)
def tyX0 : Nat → FieldType := fun k => match k with
  | 0 => .array .byte
  | 1 => .array .int
  | 2 => .array .int
  | 3 => .boolean
  | 4 => .int
  | 5 => .int
  | 6 => .array .byte
  | 7 => .array .int
  | 8 => .array .int
  | 9 => .array .short
  | 10 => .array .short
  | 11 => .array .boolean
  | 12 => .array .short
  | 13 => .array .short
  | 14 => .array .short
  | _ => .int
abbrev wsX00 : List Cond := u_ws RX0 TX0 16
set_option maxRecDepth 100000 in
theorem nmX0 : ∀ a, a < 16 → ∀ b, b < 16 → a ≠ b → (TX0 a).2.1 ≠ (TX0 b).2.1 := by decide +kernel
set_option maxRecDepth 100000 in
theorem tyX0_ok : ∀ k, k < 16 → parseFieldDescriptor (TX0 k).2.2.1 = some (tyX0 k) := by decide +kernel
abbrev cX0_init : ByteArray := prog_1_method_1_code
def yX0_init : MethodName := ⟨RX0, "<init>", "()V"⟩
theorem dX0_init_0 : decode cX0_init 0 = .ok (.aload_n 0, 1) := by decide +kernel
theorem dX0_init_1 : decode cX0_init 1 = .ok (.invokespecial 1, 3) := by decide +kernel
theorem dX0_init_4 : decode cX0_init 4 = .ok (.aload_n 0, 1) := by decide +kernel
theorem dX0_init_5 : decode cX0_init 5 = .ok (.bipush 6, 2) := by decide +kernel
theorem dX0_init_7 : decode cX0_init 7 = .ok (.newarray .byte, 2) := by decide +kernel
theorem dX0_init_9 : decode cX0_init 9 = .ok (.putfield 7, 3) := by decide +kernel
theorem dX0_init_12 : decode cX0_init 12 = .ok (.aload_n 0, 1) := by decide +kernel
theorem dX0_init_13 : decode cX0_init 13 = .ok (.bipush 6, 2) := by decide +kernel
theorem dX0_init_15 : decode cX0_init 15 = .ok (.newarray .int, 2) := by decide +kernel
theorem dX0_init_17 : decode cX0_init 17 = .ok (.putfield 13, 3) := by decide +kernel
theorem dX0_init_20 : decode cX0_init 20 = .ok (.aload_n 0, 1) := by decide +kernel
theorem dX0_init_21 : decode cX0_init 21 = .ok (.bipush 6, 2) := by decide +kernel
theorem dX0_init_23 : decode cX0_init 23 = .ok (.newarray .int, 2) := by decide +kernel
theorem dX0_init_25 : decode cX0_init 25 = .ok (.putfield 17, 3) := by decide +kernel
theorem dX0_init_28 : decode cX0_init 28 = .ok (.aload_n 0, 1) := by decide +kernel
theorem dX0_init_29 : decode cX0_init 29 = .ok (.sipush 512, 3) := by decide +kernel
theorem dX0_init_32 : decode cX0_init 32 = .ok (.newarray .byte, 2) := by decide +kernel
theorem dX0_init_34 : decode cX0_init 34 = .ok (.putfield 20, 3) := by decide +kernel
theorem dX0_init_37 : decode cX0_init 37 = .ok (.aload_n 0, 1) := by decide +kernel
theorem dX0_init_38 : decode cX0_init 38 = .ok (.sipush 512, 3) := by decide +kernel
theorem dX0_init_41 : decode cX0_init 41 = .ok (.newarray .int, 2) := by decide +kernel
theorem dX0_init_43 : decode cX0_init 43 = .ok (.putfield 23, 3) := by decide +kernel
theorem dX0_init_46 : decode cX0_init 46 = .ok (.aload_n 0, 1) := by decide +kernel
theorem dX0_init_47 : decode cX0_init 47 = .ok (.sipush 512, 3) := by decide +kernel
theorem dX0_init_50 : decode cX0_init 50 = .ok (.newarray .int, 2) := by decide +kernel
theorem dX0_init_52 : decode cX0_init 52 = .ok (.putfield 26, 3) := by decide +kernel
theorem dX0_init_55 : decode cX0_init 55 = .ok (.aload_n 0, 1) := by decide +kernel
theorem dX0_init_56 : decode cX0_init 56 = .ok (.sipush 512, 3) := by decide +kernel
theorem dX0_init_59 : decode cX0_init 59 = .ok (.newarray .short, 2) := by decide +kernel
theorem dX0_init_61 : decode cX0_init 61 = .ok (.putfield 29, 3) := by decide +kernel
theorem dX0_init_64 : decode cX0_init 64 = .ok (.aload_n 0, 1) := by decide +kernel
theorem dX0_init_65 : decode cX0_init 65 = .ok (.sipush 512, 3) := by decide +kernel
theorem dX0_init_68 : decode cX0_init 68 = .ok (.newarray .short, 2) := by decide +kernel
theorem dX0_init_70 : decode cX0_init 70 = .ok (.putfield 33, 3) := by decide +kernel
theorem dX0_init_73 : decode cX0_init 73 = .ok (.aload_n 0, 1) := by decide +kernel
theorem dX0_init_74 : decode cX0_init 74 = .ok (.sipush 512, 3) := by decide +kernel
theorem dX0_init_77 : decode cX0_init 77 = .ok (.newarray .boolean, 2) := by decide +kernel
theorem dX0_init_79 : decode cX0_init 79 = .ok (.putfield 36, 3) := by decide +kernel
theorem dX0_init_82 : decode cX0_init 82 = .ok (.aload_n 0, 1) := by decide +kernel
theorem dX0_init_83 : decode cX0_init 83 = .ok (.sipush 512, 3) := by decide +kernel
theorem dX0_init_86 : decode cX0_init 86 = .ok (.newarray .short, 2) := by decide +kernel
theorem dX0_init_88 : decode cX0_init 88 = .ok (.putfield 40, 3) := by decide +kernel
theorem dX0_init_91 : decode cX0_init 91 = .ok (.aload_n 0, 1) := by decide +kernel
theorem dX0_init_92 : decode cX0_init 92 = .ok (.bipush 6, 2) := by decide +kernel
theorem dX0_init_94 : decode cX0_init 94 = .ok (.newarray .short, 2) := by decide +kernel
theorem dX0_init_96 : decode cX0_init 96 = .ok (.putfield 43, 3) := by decide +kernel
theorem dX0_init_99 : decode cX0_init 99 = .ok (.aload_n 0, 1) := by decide +kernel
theorem dX0_init_100 : decode cX0_init 100 = .ok (.bipush 16, 2) := by decide +kernel
theorem dX0_init_102 : decode cX0_init 102 = .ok (.newarray .short, 2) := by decide +kernel
theorem dX0_init_104 : decode cX0_init 104 = .ok (.putfield 46, 3) := by decide +kernel
theorem dX0_init_107 : decode cX0_init 107 = .ok (.return_, 1) := by decide +kernel
abbrev cX0_define : ByteArray := prog_1_method_2_code
def yX0_define : MethodName := ⟨RX0, "define", "(IIII)Z"⟩
theorem dX0_define_0 : decode cX0_define 0 = .ok (.aload_n 0, 1) := by decide +kernel
theorem dX0_define_1 : decode cX0_define 1 = .ok (.iload_n 1, 1) := by decide +kernel
theorem dX0_define_2 : decode cX0_define 2 = .ok (.invokevirtual 49, 3) := by decide +kernel
theorem dX0_define_5 : decode cX0_define 5 = .ok (.ifCond .eq 13, 3) := by decide +kernel
theorem dX0_define_8 : decode cX0_define 8 = .ok (.iload_n 2, 1) := by decide +kernel
theorem dX0_define_9 : decode cX0_define 9 = .ok (.ifCond .lt 9, 3) := by decide +kernel
theorem dX0_define_12 : decode cX0_define 12 = .ok (.iload_n 2, 1) := by decide +kernel
theorem dX0_define_13 : decode cX0_define 13 = .ok (.bipush 8, 2) := by decide +kernel
theorem dX0_define_15 : decode cX0_define 15 = .ok (.if_icmp .le 5, 3) := by decide +kernel
theorem dX0_define_18 : decode cX0_define 18 = .ok (.iconst 0, 1) := by decide +kernel
theorem dX0_define_19 : decode cX0_define 19 = .ok (.ireturn, 1) := by decide +kernel
theorem dX0_define_20 : decode cX0_define 20 = .ok (.aload_n 0, 1) := by decide +kernel
theorem dX0_define_21 : decode cX0_define 21 = .ok (.iload_n 2, 1) := by decide +kernel
theorem dX0_define_22 : decode cX0_define 22 = .ok (.invokevirtual 53, 3) := by decide +kernel
theorem dX0_define_25 : decode cX0_define 25 = .ok (.ifCond .eq 13, 3) := by decide +kernel
theorem dX0_define_28 : decode cX0_define 28 = .ok (.aload_n 0, 1) := by decide +kernel
theorem dX0_define_29 : decode cX0_define 29 = .ok (.iload_n 3, 1) := by decide +kernel
theorem dX0_define_30 : decode cX0_define 30 = .ok (.invokevirtual 49, 3) := by decide +kernel
theorem dX0_define_33 : decode cX0_define 33 = .ok (.ifCond .ne 5, 3) := by decide +kernel
theorem dX0_define_36 : decode cX0_define 36 = .ok (.iconst 0, 1) := by decide +kernel
theorem dX0_define_37 : decode cX0_define 37 = .ok (.ireturn, 1) := by decide +kernel
theorem dX0_define_38 : decode cX0_define 38 = .ok (.aload_n 0, 1) := by decide +kernel
theorem dX0_define_39 : decode cX0_define 39 = .ok (.iload_n 2, 1) := by decide +kernel
theorem dX0_define_40 : decode cX0_define 40 = .ok (.invokevirtual 56, 3) := by decide +kernel
theorem dX0_define_43 : decode cX0_define 43 = .ok (.ifCond .eq 14, 3) := by decide +kernel
theorem dX0_define_46 : decode cX0_define 46 = .ok (.aload_n 0, 1) := by decide +kernel
theorem dX0_define_47 : decode cX0_define 47 = .ok (.iload 4, 2) := by decide +kernel
theorem dX0_define_49 : decode cX0_define 49 = .ok (.invokevirtual 49, 3) := by decide +kernel
theorem dX0_define_52 : decode cX0_define 52 = .ok (.ifCond .ne 5, 3) := by decide +kernel
theorem dX0_define_55 : decode cX0_define 55 = .ok (.iconst 0, 1) := by decide +kernel
theorem dX0_define_56 : decode cX0_define 56 = .ok (.ireturn, 1) := by decide +kernel
theorem dX0_define_57 : decode cX0_define 57 = .ok (.aload_n 0, 1) := by decide +kernel
theorem dX0_define_58 : decode cX0_define 58 = .ok (.getfield 7, 3) := by decide +kernel
theorem dX0_define_61 : decode cX0_define 61 = .ok (.iload_n 1, 1) := by decide +kernel
theorem dX0_define_62 : decode cX0_define 62 = .ok (.iload_n 2, 1) := by decide +kernel
theorem dX0_define_63 : decode cX0_define 63 = .ok (.i2b, 1) := by decide +kernel
theorem dX0_define_64 : decode cX0_define 64 = .ok (.bastore, 1) := by decide +kernel
theorem dX0_define_65 : decode cX0_define 65 = .ok (.aload_n 0, 1) := by decide +kernel
theorem dX0_define_66 : decode cX0_define 66 = .ok (.getfield 13, 3) := by decide +kernel
theorem dX0_define_69 : decode cX0_define 69 = .ok (.iload_n 1, 1) := by decide +kernel
theorem dX0_define_70 : decode cX0_define 70 = .ok (.iload_n 3, 1) := by decide +kernel
theorem dX0_define_71 : decode cX0_define 71 = .ok (.iastore, 1) := by decide +kernel
theorem dX0_define_72 : decode cX0_define 72 = .ok (.aload_n 0, 1) := by decide +kernel
theorem dX0_define_73 : decode cX0_define 73 = .ok (.getfield 17, 3) := by decide +kernel
theorem dX0_define_76 : decode cX0_define 76 = .ok (.iload_n 1, 1) := by decide +kernel
theorem dX0_define_77 : decode cX0_define 77 = .ok (.iload 4, 2) := by decide +kernel
theorem dX0_define_79 : decode cX0_define 79 = .ok (.iastore, 1) := by decide +kernel
theorem dX0_define_80 : decode cX0_define 80 = .ok (.aload_n 0, 1) := by decide +kernel
theorem dX0_define_81 : decode cX0_define 81 = .ok (.iconst 0, 1) := by decide +kernel
theorem dX0_define_82 : decode cX0_define 82 = .ok (.putfield 59, 3) := by decide +kernel
theorem dX0_define_85 : decode cX0_define 85 = .ok (.iconst 1, 1) := by decide +kernel
theorem dX0_define_86 : decode cX0_define 86 = .ok (.ireturn, 1) := by decide +kernel
abbrev cX0_isSequence : ByteArray := prog_1_method_3_code
def yX0_isSequence : MethodName := ⟨RX0, "isSequence", "(I)Z"⟩
theorem dX0_isSequence_0 : decode cX0_isSequence 0 = .ok (.iload_n 1, 1) := by decide +kernel
theorem dX0_isSequence_1 : decode cX0_isSequence 1 = .ok (.ifCond .lt 12, 3) := by decide +kernel
theorem dX0_isSequence_4 : decode cX0_isSequence 4 = .ok (.iload_n 1, 1) := by decide +kernel
theorem dX0_isSequence_5 : decode cX0_isSequence 5 = .ok (.iconst 5, 1) := by decide +kernel
theorem dX0_isSequence_6 : decode cX0_isSequence 6 = .ok (.if_icmp .gt 7, 3) := by decide +kernel
theorem dX0_isSequence_9 : decode cX0_isSequence 9 = .ok (.iconst 1, 1) := by decide +kernel
theorem dX0_isSequence_10 : decode cX0_isSequence 10 = .ok (.goto 4, 3) := by decide +kernel
theorem dX0_isSequence_13 : decode cX0_isSequence 13 = .ok (.iconst 0, 1) := by decide +kernel
theorem dX0_isSequence_14 : decode cX0_isSequence 14 = .ok (.ireturn, 1) := by decide +kernel
abbrev cX0_worksOnA : ByteArray := prog_1_method_4_code
def yX0_worksOnA : MethodName := ⟨RX0, "worksOnA", "(I)Z"⟩
theorem dX0_worksOnA_0 : decode cX0_worksOnA 0 = .ok (.iload_n 1, 1) := by decide +kernel
theorem dX0_worksOnA_1 : decode cX0_worksOnA 1 = .ok (.iconst 2, 1) := by decide +kernel
theorem dX0_worksOnA_2 : decode cX0_worksOnA 2 = .ok (.if_icmp .lt 12, 3) := by decide +kernel
theorem dX0_worksOnA_5 : decode cX0_worksOnA 5 = .ok (.iload_n 1, 1) := by decide +kernel
theorem dX0_worksOnA_6 : decode cX0_worksOnA 6 = .ok (.iconst 5, 1) := by decide +kernel
theorem dX0_worksOnA_7 : decode cX0_worksOnA 7 = .ok (.if_icmp .eq 7, 3) := by decide +kernel
theorem dX0_worksOnA_10 : decode cX0_worksOnA 10 = .ok (.iconst 1, 1) := by decide +kernel
theorem dX0_worksOnA_11 : decode cX0_worksOnA 11 = .ok (.goto 4, 3) := by decide +kernel
theorem dX0_worksOnA_14 : decode cX0_worksOnA 14 = .ok (.iconst 0, 1) := by decide +kernel
theorem dX0_worksOnA_15 : decode cX0_worksOnA 15 = .ok (.ireturn, 1) := by decide +kernel
abbrev cX0_worksOnB : ByteArray := prog_1_method_5_code
def yX0_worksOnB : MethodName := ⟨RX0, "worksOnB", "(I)Z"⟩
theorem dX0_worksOnB_0 : decode cX0_worksOnB 0 = .ok (.iload_n 1, 1) := by decide +kernel
theorem dX0_worksOnB_1 : decode cX0_worksOnB 1 = .ok (.iconst 1, 1) := by decide +kernel
theorem dX0_worksOnB_2 : decode cX0_worksOnB 2 = .ok (.if_icmp .eq 30, 3) := by decide +kernel
theorem dX0_worksOnB_5 : decode cX0_worksOnB 5 = .ok (.iload_n 1, 1) := by decide +kernel
theorem dX0_worksOnB_6 : decode cX0_worksOnB 6 = .ok (.iconst 3, 1) := by decide +kernel
theorem dX0_worksOnB_7 : decode cX0_worksOnB 7 = .ok (.if_icmp .eq 25, 3) := by decide +kernel
theorem dX0_worksOnB_10 : decode cX0_worksOnB 10 = .ok (.iload_n 1, 1) := by decide +kernel
theorem dX0_worksOnB_11 : decode cX0_worksOnB 11 = .ok (.iconst 4, 1) := by decide +kernel
theorem dX0_worksOnB_12 : decode cX0_worksOnB 12 = .ok (.if_icmp .eq 20, 3) := by decide +kernel
theorem dX0_worksOnB_15 : decode cX0_worksOnB 15 = .ok (.iload_n 1, 1) := by decide +kernel
theorem dX0_worksOnB_16 : decode cX0_worksOnB 16 = .ok (.iconst 5, 1) := by decide +kernel
theorem dX0_worksOnB_17 : decode cX0_worksOnB 17 = .ok (.if_icmp .eq 15, 3) := by decide +kernel
theorem dX0_worksOnB_20 : decode cX0_worksOnB 20 = .ok (.iload_n 1, 1) := by decide +kernel
theorem dX0_worksOnB_21 : decode cX0_worksOnB 21 = .ok (.bipush 7, 2) := by decide +kernel
theorem dX0_worksOnB_23 : decode cX0_worksOnB 23 = .ok (.if_icmp .eq 9, 3) := by decide +kernel
theorem dX0_worksOnB_26 : decode cX0_worksOnB 26 = .ok (.iload_n 1, 1) := by decide +kernel
theorem dX0_worksOnB_27 : decode cX0_worksOnB 27 = .ok (.bipush 8, 2) := by decide +kernel
theorem dX0_worksOnB_29 : decode cX0_worksOnB 29 = .ok (.if_icmp .ne 7, 3) := by decide +kernel
theorem dX0_worksOnB_32 : decode cX0_worksOnB 32 = .ok (.iconst 1, 1) := by decide +kernel
theorem dX0_worksOnB_33 : decode cX0_worksOnB 33 = .ok (.goto 4, 3) := by decide +kernel
theorem dX0_worksOnB_36 : decode cX0_worksOnB 36 = .ok (.iconst 0, 1) := by decide +kernel
theorem dX0_worksOnB_37 : decode cX0_worksOnB 37 = .ok (.ireturn, 1) := by decide +kernel
abbrev cX0_ready : ByteArray := prog_1_method_6_code
def yX0_ready : MethodName := ⟨RX0, "ready", "(II)Z"⟩
theorem dX0_ready_0 : decode cX0_ready 0 = .ok (.aload_n 0, 1) := by decide +kernel
theorem dX0_ready_1 : decode cX0_ready 1 = .ok (.iload_n 1, 1) := by decide +kernel
theorem dX0_ready_2 : decode cX0_ready 2 = .ok (.invokevirtual 49, 3) := by decide +kernel
theorem dX0_ready_5 : decode cX0_ready 5 = .ok (.ifCond .eq 13, 3) := by decide +kernel
theorem dX0_ready_8 : decode cX0_ready 8 = .ok (.iload_n 2, 1) := by decide +kernel
theorem dX0_ready_9 : decode cX0_ready 9 = .ok (.ifCond .lt 9, 3) := by decide +kernel
theorem dX0_ready_12 : decode cX0_ready 12 = .ok (.iload_n 2, 1) := by decide +kernel
theorem dX0_ready_13 : decode cX0_ready 13 = .ok (.bipush 15, 2) := by decide +kernel
theorem dX0_ready_15 : decode cX0_ready 15 = .ok (.if_icmp .le 5, 3) := by decide +kernel
theorem dX0_ready_18 : decode cX0_ready 18 = .ok (.iconst 0, 1) := by decide +kernel
theorem dX0_ready_19 : decode cX0_ready 19 = .ok (.ireturn, 1) := by decide +kernel
theorem dX0_ready_20 : decode cX0_ready 20 = .ok (.aload_n 0, 1) := by decide +kernel
theorem dX0_ready_21 : decode cX0_ready 21 = .ok (.iload_n 1, 1) := by decide +kernel
theorem dX0_ready_22 : decode cX0_ready 22 = .ok (.iload_n 2, 1) := by decide +kernel
theorem dX0_ready_23 : decode cX0_ready 23 = .ok (.invokevirtual 63, 3) := by decide +kernel
theorem dX0_ready_26 : decode cX0_ready 26 = .ok (.ifCond .lt 7, 3) := by decide +kernel
theorem dX0_ready_29 : decode cX0_ready 29 = .ok (.iconst 1, 1) := by decide +kernel
theorem dX0_ready_30 : decode cX0_ready 30 = .ok (.goto 4, 3) := by decide +kernel
theorem dX0_ready_33 : decode cX0_ready 33 = .ok (.iconst 0, 1) := by decide +kernel
theorem dX0_ready_34 : decode cX0_ready 34 = .ok (.ireturn, 1) := by decide +kernel
abbrev cX0_reach : ByteArray := prog_1_method_15_code
def yX0_reach : MethodName := ⟨RX0, "reach", "(II)I"⟩
theorem dX0_reach_0 : decode cX0_reach 0 = .ok (.aload_n 0, 1) := by decide +kernel
theorem dX0_reach_1 : decode cX0_reach 1 = .ok (.invokevirtual 78, 3) := by decide +kernel
theorem dX0_reach_4 : decode cX0_reach 4 = .ok (.aload_n 0, 1) := by decide +kernel
theorem dX0_reach_5 : decode cX0_reach 5 = .ok (.aload_n 0, 1) := by decide +kernel
theorem dX0_reach_6 : decode cX0_reach 6 = .ok (.getfield 43, 3) := by decide +kernel
theorem dX0_reach_9 : decode cX0_reach 9 = .ok (.iload_n 1, 1) := by decide +kernel
theorem dX0_reach_10 : decode cX0_reach 10 = .ok (.saload, 1) := by decide +kernel
theorem dX0_reach_11 : decode cX0_reach 11 = .ok (.invokevirtual 81, 3) := by decide +kernel
theorem dX0_reach_14 : decode cX0_reach 14 = .ok (.istore_n 3, 1) := by decide +kernel
theorem dX0_reach_15 : decode cX0_reach 15 = .ok (.iconst 0, 1) := by decide +kernel
theorem dX0_reach_16 : decode cX0_reach 16 = .ok (.istore 4, 2) := by decide +kernel
theorem dX0_reach_18 : decode cX0_reach 18 = .ok (.iload 4, 2) := by decide +kernel
theorem dX0_reach_20 : decode cX0_reach 20 = .ok (.iload_n 2, 1) := by decide +kernel
theorem dX0_reach_21 : decode cX0_reach 21 = .ok (.if_icmp .ge 24, 3) := by decide +kernel
theorem dX0_reach_24 : decode cX0_reach 24 = .ok (.iload_n 3, 1) := by decide +kernel
theorem dX0_reach_25 : decode cX0_reach 25 = .ok (.ifCond .lt 20, 3) := by decide +kernel
theorem dX0_reach_28 : decode cX0_reach 28 = .ok (.aload_n 0, 1) := by decide +kernel
theorem dX0_reach_29 : decode cX0_reach 29 = .ok (.aload_n 0, 1) := by decide +kernel
theorem dX0_reach_30 : decode cX0_reach 30 = .ok (.getfield 29, 3) := by decide +kernel
theorem dX0_reach_33 : decode cX0_reach 33 = .ok (.iload_n 3, 1) := by decide +kernel
theorem dX0_reach_34 : decode cX0_reach 34 = .ok (.saload, 1) := by decide +kernel
theorem dX0_reach_35 : decode cX0_reach 35 = .ok (.invokevirtual 81, 3) := by decide +kernel
theorem dX0_reach_38 : decode cX0_reach 38 = .ok (.istore_n 3, 1) := by decide +kernel
theorem dX0_reach_39 : decode cX0_reach 39 = .ok (.iinc 4 1, 3) := by decide +kernel
theorem dX0_reach_42 : decode cX0_reach 42 = .ok (.goto (-24), 3) := by decide +kernel
theorem dX0_reach_45 : decode cX0_reach 45 = .ok (.iload_n 3, 1) := by decide +kernel
theorem dX0_reach_46 : decode cX0_reach 46 = .ok (.ireturn, 1) := by decide +kernel
abbrev cX0_build : ByteArray := prog_1_method_13_code
def yX0_build : MethodName := ⟨RX0, "build", "()V"⟩
theorem dX0_build_0 : decode cX0_build 0 = .ok (.aload_n 0, 1) := by decide +kernel
theorem dX0_build_1 : decode cX0_build 1 = .ok (.getfield 59, 3) := by decide +kernel
theorem dX0_build_4 : decode cX0_build 4 = .ok (.ifCond .eq 4, 3) := by decide +kernel
theorem dX0_build_7 : decode cX0_build 7 = .ok (.return_, 1) := by decide +kernel
theorem dX0_build_8 : decode cX0_build 8 = .ok (.aload_n 0, 1) := by decide +kernel
theorem dX0_build_9 : decode cX0_build 9 = .ok (.iconst 1, 1) := by decide +kernel
theorem dX0_build_10 : decode cX0_build 10 = .ok (.putfield 59, 3) := by decide +kernel
theorem dX0_build_13 : decode cX0_build 13 = .ok (.aload_n 0, 1) := by decide +kernel
theorem dX0_build_14 : decode cX0_build 14 = .ok (.iconst 0, 1) := by decide +kernel
theorem dX0_build_15 : decode cX0_build 15 = .ok (.putfield 67, 3) := by decide +kernel
theorem dX0_build_18 : decode cX0_build 18 = .ok (.aload_n 0, 1) := by decide +kernel
theorem dX0_build_19 : decode cX0_build 19 = .ok (.iconst 0, 1) := by decide +kernel
theorem dX0_build_20 : decode cX0_build 20 = .ok (.putfield 71, 3) := by decide +kernel
theorem dX0_build_23 : decode cX0_build 23 = .ok (.iconst 0, 1) := by decide +kernel
theorem dX0_build_24 : decode cX0_build 24 = .ok (.istore_n 1, 1) := by decide +kernel
theorem dX0_build_25 : decode cX0_build 25 = .ok (.iload_n 1, 1) := by decide +kernel
theorem dX0_build_26 : decode cX0_build 26 = .ok (.bipush 6, 2) := by decide +kernel
theorem dX0_build_28 : decode cX0_build 28 = .ok (.if_icmp .ge 123, 3) := by decide +kernel
theorem dX0_build_31 : decode cX0_build 31 = .ok (.aload_n 0, 1) := by decide +kernel
theorem dX0_build_32 : decode cX0_build 32 = .ok (.getfield 7, 3) := by decide +kernel
theorem dX0_build_35 : decode cX0_build 35 = .ok (.iload_n 1, 1) := by decide +kernel
theorem dX0_build_36 : decode cX0_build 36 = .ok (.baload, 1) := by decide +kernel
theorem dX0_build_37 : decode cX0_build 37 = .ok (.istore_n 2, 1) := by decide +kernel
theorem dX0_build_38 : decode cX0_build 38 = .ok (.aload_n 0, 1) := by decide +kernel
theorem dX0_build_39 : decode cX0_build 39 = .ok (.getfield 13, 3) := by decide +kernel
theorem dX0_build_42 : decode cX0_build 42 = .ok (.iload_n 1, 1) := by decide +kernel
theorem dX0_build_43 : decode cX0_build 43 = .ok (.iaload, 1) := by decide +kernel
theorem dX0_build_44 : decode cX0_build 44 = .ok (.istore_n 3, 1) := by decide +kernel
theorem dX0_build_45 : decode cX0_build 45 = .ok (.aload_n 0, 1) := by decide +kernel
theorem dX0_build_46 : decode cX0_build 46 = .ok (.getfield 17, 3) := by decide +kernel
theorem dX0_build_49 : decode cX0_build 49 = .ok (.iload_n 1, 1) := by decide +kernel
theorem dX0_build_50 : decode cX0_build 50 = .ok (.iaload, 1) := by decide +kernel
theorem dX0_build_51 : decode cX0_build 51 = .ok (.istore 4, 2) := by decide +kernel
theorem dX0_build_53 : decode cX0_build 53 = .ok (.aload_n 0, 1) := by decide +kernel
theorem dX0_build_54 : decode cX0_build 54 = .ok (.iload_n 2, 1) := by decide +kernel
theorem dX0_build_55 : decode cX0_build 55 = .ok (.invokevirtual 56, 3) := by decide +kernel
theorem dX0_build_58 : decode cX0_build 58 = .ok (.ifCond .eq 8, 3) := by decide +kernel
theorem dX0_build_61 : decode cX0_build 61 = .ok (.iload 4, 2) := by decide +kernel
theorem dX0_build_63 : decode cX0_build 63 = .ok (.goto 4, 3) := by decide +kernel
theorem dX0_build_66 : decode cX0_build 66 = .ok (.iconst 0, 1) := by decide +kernel
theorem dX0_build_67 : decode cX0_build 67 = .ok (.istore 5, 2) := by decide +kernel
theorem dX0_build_69 : decode cX0_build 69 = .ok (.aload_n 0, 1) := by decide +kernel
theorem dX0_build_70 : decode cX0_build 70 = .ok (.getfield 43, 3) := by decide +kernel
theorem dX0_build_73 : decode cX0_build 73 = .ok (.iload_n 1, 1) := by decide +kernel
theorem dX0_build_74 : decode cX0_build 74 = .ok (.iload_n 1, 1) := by decide +kernel
theorem dX0_build_75 : decode cX0_build 75 = .ok (.i2s, 1) := by decide +kernel
theorem dX0_build_76 : decode cX0_build 76 = .ok (.sastore, 1) := by decide +kernel
theorem dX0_build_77 : decode cX0_build 77 = .ok (.iload_n 2, 1) := by decide +kernel
theorem dX0_build_78 : decode cX0_build 78 = .ok (.ifCond .ne 17, 3) := by decide +kernel
theorem dX0_build_81 : decode cX0_build 81 = .ok (.aload_n 0, 1) := by decide +kernel
theorem dX0_build_82 : decode cX0_build 82 = .ok (.iconst 0, 1) := by decide +kernel
theorem dX0_build_83 : decode cX0_build 83 = .ok (.iload_n 3, 1) := by decide +kernel
theorem dX0_build_84 : decode cX0_build 84 = .ok (.iload 4, 2) := by decide +kernel
theorem dX0_build_86 : decode cX0_build 86 = .ok (.iconst 0, 1) := by decide +kernel
theorem dX0_build_87 : decode cX0_build 87 = .ok (.iconst 0, 1) := by decide +kernel
theorem dX0_build_88 : decode cX0_build 88 = .ok (.invokevirtual 74, 3) := by decide +kernel
theorem dX0_build_91 : decode cX0_build 91 = .ok (.pop, 1) := by decide +kernel
theorem dX0_build_92 : decode cX0_build 92 = .ok (.goto 53, 3) := by decide +kernel
theorem dX0_build_95 : decode cX0_build 95 = .ok (.iload_n 2, 1) := by decide +kernel
theorem dX0_build_96 : decode cX0_build 96 = .ok (.iconst 1, 1) := by decide +kernel
theorem dX0_build_97 : decode cX0_build 97 = .ok (.if_icmp .ne 18, 3) := by decide +kernel
theorem dX0_build_100 : decode cX0_build 100 = .ok (.aload_n 0, 1) := by decide +kernel
theorem dX0_build_101 : decode cX0_build 101 = .ok (.bipush 9, 2) := by decide +kernel
theorem dX0_build_103 : decode cX0_build 103 = .ok (.iload_n 3, 1) := by decide +kernel
theorem dX0_build_104 : decode cX0_build 104 = .ok (.iconst 0, 1) := by decide +kernel
theorem dX0_build_105 : decode cX0_build 105 = .ok (.iload 4, 2) := by decide +kernel
theorem dX0_build_107 : decode cX0_build 107 = .ok (.iconst 0, 1) := by decide +kernel
theorem dX0_build_108 : decode cX0_build 108 = .ok (.invokevirtual 74, 3) := by decide +kernel
theorem dX0_build_111 : decode cX0_build 111 = .ok (.pop, 1) := by decide +kernel
theorem dX0_build_112 : decode cX0_build 112 = .ok (.goto 33, 3) := by decide +kernel
theorem dX0_build_115 : decode cX0_build 115 = .ok (.iload_n 2, 1) := by decide +kernel
theorem dX0_build_116 : decode cX0_build 116 = .ok (.iconst 5, 1) := by decide +kernel
theorem dX0_build_117 : decode cX0_build 117 = .ok (.if_icmp .ne 17, 3) := by decide +kernel
theorem dX0_build_120 : decode cX0_build 120 = .ok (.aload_n 0, 1) := by decide +kernel
theorem dX0_build_121 : decode cX0_build 121 = .ok (.iconst 5, 1) := by decide +kernel
theorem dX0_build_122 : decode cX0_build 122 = .ok (.iload_n 3, 1) := by decide +kernel
theorem dX0_build_123 : decode cX0_build 123 = .ok (.iconst 0, 1) := by decide +kernel
theorem dX0_build_124 : decode cX0_build 124 = .ok (.iload 4, 2) := by decide +kernel
theorem dX0_build_126 : decode cX0_build 126 = .ok (.iconst 0, 1) := by decide +kernel
theorem dX0_build_127 : decode cX0_build 127 = .ok (.invokevirtual 74, 3) := by decide +kernel
theorem dX0_build_130 : decode cX0_build 130 = .ok (.pop, 1) := by decide +kernel
theorem dX0_build_131 : decode cX0_build 131 = .ok (.goto 14, 3) := by decide +kernel
theorem dX0_build_134 : decode cX0_build 134 = .ok (.aload_n 0, 1) := by decide +kernel
theorem dX0_build_135 : decode cX0_build 135 = .ok (.iload_n 2, 1) := by decide +kernel
theorem dX0_build_136 : decode cX0_build 136 = .ok (.iconst 0, 1) := by decide +kernel
theorem dX0_build_137 : decode cX0_build 137 = .ok (.iconst 0, 1) := by decide +kernel
theorem dX0_build_138 : decode cX0_build 138 = .ok (.iload_n 3, 1) := by decide +kernel
theorem dX0_build_139 : decode cX0_build 139 = .ok (.iload 5, 2) := by decide +kernel
theorem dX0_build_141 : decode cX0_build 141 = .ok (.invokevirtual 74, 3) := by decide +kernel
theorem dX0_build_144 : decode cX0_build 144 = .ok (.pop, 1) := by decide +kernel
theorem dX0_build_145 : decode cX0_build 145 = .ok (.iinc 1 1, 3) := by decide +kernel
theorem dX0_build_148 : decode cX0_build 148 = .ok (.goto (-123), 3) := by decide +kernel
theorem dX0_build_151 : decode cX0_build 151 = .ok (.return_, 1) := by decide +kernel
abbrev cX0_allocate : ByteArray := prog_1_method_14_code
def yX0_allocate : MethodName := ⟨RX0, "allocate", "(IIIII)I"⟩
theorem dX0_allocate_0 : decode cX0_allocate 0 = .ok (.aload_n 0, 1) := by decide +kernel
theorem dX0_allocate_1 : decode cX0_allocate 1 = .ok (.getfield 71, 3) := by decide +kernel
theorem dX0_allocate_4 : decode cX0_allocate 4 = .ok (.istore 6, 2) := by decide +kernel
theorem dX0_allocate_6 : decode cX0_allocate 6 = .ok (.aload_n 0, 1) := by decide +kernel
theorem dX0_allocate_7 : decode cX0_allocate 7 = .ok (.dup, 1) := by decide +kernel
theorem dX0_allocate_8 : decode cX0_allocate 8 = .ok (.getfield 71, 3) := by decide +kernel
theorem dX0_allocate_11 : decode cX0_allocate 11 = .ok (.iconst 1, 1) := by decide +kernel
theorem dX0_allocate_12 : decode cX0_allocate 12 = .ok (.iadd, 1) := by decide +kernel
theorem dX0_allocate_13 : decode cX0_allocate 13 = .ok (.putfield 71, 3) := by decide +kernel
theorem dX0_allocate_16 : decode cX0_allocate 16 = .ok (.aload_n 0, 1) := by decide +kernel
theorem dX0_allocate_17 : decode cX0_allocate 17 = .ok (.getfield 20, 3) := by decide +kernel
theorem dX0_allocate_20 : decode cX0_allocate 20 = .ok (.iload 6, 2) := by decide +kernel
theorem dX0_allocate_22 : decode cX0_allocate 22 = .ok (.iload_n 1, 1) := by decide +kernel
theorem dX0_allocate_23 : decode cX0_allocate 23 = .ok (.i2b, 1) := by decide +kernel
theorem dX0_allocate_24 : decode cX0_allocate 24 = .ok (.bastore, 1) := by decide +kernel
theorem dX0_allocate_25 : decode cX0_allocate 25 = .ok (.aload_n 0, 1) := by decide +kernel
theorem dX0_allocate_26 : decode cX0_allocate 26 = .ok (.getfield 23, 3) := by decide +kernel
theorem dX0_allocate_29 : decode cX0_allocate 29 = .ok (.iload 6, 2) := by decide +kernel
theorem dX0_allocate_31 : decode cX0_allocate 31 = .ok (.iload_n 2, 1) := by decide +kernel
theorem dX0_allocate_32 : decode cX0_allocate 32 = .ok (.iastore, 1) := by decide +kernel
theorem dX0_allocate_33 : decode cX0_allocate 33 = .ok (.aload_n 0, 1) := by decide +kernel
theorem dX0_allocate_34 : decode cX0_allocate 34 = .ok (.getfield 26, 3) := by decide +kernel
theorem dX0_allocate_37 : decode cX0_allocate 37 = .ok (.iload 6, 2) := by decide +kernel
theorem dX0_allocate_39 : decode cX0_allocate 39 = .ok (.iload_n 3, 1) := by decide +kernel
theorem dX0_allocate_40 : decode cX0_allocate 40 = .ok (.iastore, 1) := by decide +kernel
theorem dX0_allocate_41 : decode cX0_allocate 41 = .ok (.aload_n 0, 1) := by decide +kernel
theorem dX0_allocate_42 : decode cX0_allocate 42 = .ok (.getfield 29, 3) := by decide +kernel
theorem dX0_allocate_45 : decode cX0_allocate 45 = .ok (.iload 6, 2) := by decide +kernel
theorem dX0_allocate_47 : decode cX0_allocate 47 = .ok (.iload 4, 2) := by decide +kernel
theorem dX0_allocate_49 : decode cX0_allocate 49 = .ok (.i2s, 1) := by decide +kernel
theorem dX0_allocate_50 : decode cX0_allocate 50 = .ok (.sastore, 1) := by decide +kernel
theorem dX0_allocate_51 : decode cX0_allocate 51 = .ok (.aload_n 0, 1) := by decide +kernel
theorem dX0_allocate_52 : decode cX0_allocate 52 = .ok (.getfield 33, 3) := by decide +kernel
theorem dX0_allocate_55 : decode cX0_allocate 55 = .ok (.iload 6, 2) := by decide +kernel
theorem dX0_allocate_57 : decode cX0_allocate 57 = .ok (.iload 5, 2) := by decide +kernel
theorem dX0_allocate_59 : decode cX0_allocate 59 = .ok (.i2s, 1) := by decide +kernel
theorem dX0_allocate_60 : decode cX0_allocate 60 = .ok (.sastore, 1) := by decide +kernel
theorem dX0_allocate_61 : decode cX0_allocate 61 = .ok (.aload_n 0, 1) := by decide +kernel
theorem dX0_allocate_62 : decode cX0_allocate 62 = .ok (.getfield 36, 3) := by decide +kernel
theorem dX0_allocate_65 : decode cX0_allocate 65 = .ok (.iload 6, 2) := by decide +kernel
theorem dX0_allocate_67 : decode cX0_allocate 67 = .ok (.iconst 0, 1) := by decide +kernel
theorem dX0_allocate_68 : decode cX0_allocate 68 = .ok (.bastore, 1) := by decide +kernel
theorem dX0_allocate_69 : decode cX0_allocate 69 = .ok (.iload 6, 2) := by decide +kernel
theorem dX0_allocate_71 : decode cX0_allocate 71 = .ok (.ireturn, 1) := by decide +kernel
abbrev cX0_force : ByteArray := prog_1_method_17_code
def yX0_force : MethodName := ⟨RX0, "force", "(I)I"⟩
theorem dX0_force_0 : decode cX0_force 0 = .ok (.aload_n 0, 1) := by decide +kernel
theorem dX0_force_1 : decode cX0_force 1 = .ok (.iconst 0, 1) := by decide +kernel
theorem dX0_force_2 : decode cX0_force 2 = .ok (.putfield 85, 3) := by decide +kernel
theorem dX0_force_5 : decode cX0_force 5 = .ok (.aload_n 0, 1) := by decide +kernel
theorem dX0_force_6 : decode cX0_force 6 = .ok (.iload_n 1, 1) := by decide +kernel
theorem dX0_force_7 : decode cX0_force 7 = .ok (.invokevirtual 88, 3) := by decide +kernel
theorem dX0_force_10 : decode cX0_force 10 = .ok (.iconst (-1), 1) := by decide +kernel
theorem dX0_force_11 : decode cX0_force 11 = .ok (.istore_n 2, 1) := by decide +kernel
theorem dX0_force_12 : decode cX0_force 12 = .ok (.aload_n 0, 1) := by decide +kernel
theorem dX0_force_13 : decode cX0_force 13 = .ok (.getfield 85, 3) := by decide +kernel
theorem dX0_force_16 : decode cX0_force 16 = .ok (.ifCond .le 129, 3) := by decide +kernel
theorem dX0_force_19 : decode cX0_force 19 = .ok (.aload_n 0, 1) := by decide +kernel
theorem dX0_force_20 : decode cX0_force 20 = .ok (.getfield 71, 3) := by decide +kernel
theorem dX0_force_23 : decode cX0_force 23 = .ok (.aload_n 0, 1) := by decide +kernel
theorem dX0_force_24 : decode cX0_force 24 = .ok (.getfield 67, 3) := by decide +kernel
theorem dX0_force_27 : decode cX0_force 27 = .ok (.sipush 256, 3) := by decide +kernel
theorem dX0_force_30 : decode cX0_force 30 = .ok (.iadd, 1) := by decide +kernel
theorem dX0_force_31 : decode cX0_force 31 = .ok (.if_icmp .ne 7, 3) := by decide +kernel
theorem dX0_force_34 : decode cX0_force 34 = .ok (.aload_n 0, 1) := by decide +kernel
theorem dX0_force_35 : decode cX0_force 35 = .ok (.invokevirtual 92, 3) := by decide +kernel
theorem dX0_force_38 : decode cX0_force 38 = .ok (.aload_n 0, 1) := by decide +kernel
theorem dX0_force_39 : decode cX0_force 39 = .ok (.aload_n 0, 1) := by decide +kernel
theorem dX0_force_40 : decode cX0_force 40 = .ok (.getfield 46, 3) := by decide +kernel
theorem dX0_force_43 : decode cX0_force 43 = .ok (.aload_n 0, 1) := by decide +kernel
theorem dX0_force_44 : decode cX0_force 44 = .ok (.getfield 85, 3) := by decide +kernel
theorem dX0_force_47 : decode cX0_force 47 = .ok (.iconst 1, 1) := by decide +kernel
theorem dX0_force_48 : decode cX0_force 48 = .ok (.isub, 1) := by decide +kernel
theorem dX0_force_49 : decode cX0_force 49 = .ok (.saload, 1) := by decide +kernel
theorem dX0_force_50 : decode cX0_force 50 = .ok (.invokevirtual 95, 3) := by decide +kernel
theorem dX0_force_53 : decode cX0_force 53 = .ok (.istore_n 3, 1) := by decide +kernel
theorem dX0_force_54 : decode cX0_force 54 = .ok (.aload_n 0, 1) := by decide +kernel
theorem dX0_force_55 : decode cX0_force 55 = .ok (.getfield 46, 3) := by decide +kernel
theorem dX0_force_58 : decode cX0_force 58 = .ok (.aload_n 0, 1) := by decide +kernel
theorem dX0_force_59 : decode cX0_force 59 = .ok (.getfield 85, 3) := by decide +kernel
theorem dX0_force_62 : decode cX0_force 62 = .ok (.iconst 1, 1) := by decide +kernel
theorem dX0_force_63 : decode cX0_force 63 = .ok (.isub, 1) := by decide +kernel
theorem dX0_force_64 : decode cX0_force 64 = .ok (.iload_n 3, 1) := by decide +kernel
theorem dX0_force_65 : decode cX0_force 65 = .ok (.i2s, 1) := by decide +kernel
theorem dX0_force_66 : decode cX0_force 66 = .ok (.sastore, 1) := by decide +kernel
theorem dX0_force_67 : decode cX0_force 67 = .ok (.aload_n 0, 1) := by decide +kernel
theorem dX0_force_68 : decode cX0_force 68 = .ok (.getfield 20, 3) := by decide +kernel
theorem dX0_force_71 : decode cX0_force 71 = .ok (.iload_n 3, 1) := by decide +kernel
theorem dX0_force_72 : decode cX0_force 72 = .ok (.baload, 1) := by decide +kernel
theorem dX0_force_73 : decode cX0_force 73 = .ok (.bipush 9, 2) := by decide +kernel
theorem dX0_force_75 : decode cX0_force 75 = .ok (.if_icmp .ne 18, 3) := by decide +kernel
theorem dX0_force_78 : decode cX0_force 78 = .ok (.iload_n 3, 1) := by decide +kernel
theorem dX0_force_79 : decode cX0_force 79 = .ok (.istore_n 2, 1) := by decide +kernel
theorem dX0_force_80 : decode cX0_force 80 = .ok (.aload_n 0, 1) := by decide +kernel
theorem dX0_force_81 : decode cX0_force 81 = .ok (.dup, 1) := by decide +kernel
theorem dX0_force_82 : decode cX0_force 82 = .ok (.getfield 85, 3) := by decide +kernel
theorem dX0_force_85 : decode cX0_force 85 = .ok (.iconst 1, 1) := by decide +kernel
theorem dX0_force_86 : decode cX0_force 86 = .ok (.isub, 1) := by decide +kernel
theorem dX0_force_87 : decode cX0_force 87 = .ok (.putfield 85, 3) := by decide +kernel
theorem dX0_force_90 : decode cX0_force 90 = .ok (.goto (-78), 3) := by decide +kernel
theorem dX0_force_93 : decode cX0_force 93 = .ok (.aload_n 0, 1) := by decide +kernel
theorem dX0_force_94 : decode cX0_force 94 = .ok (.getfield 36, 3) := by decide +kernel
theorem dX0_force_97 : decode cX0_force 97 = .ok (.iload_n 3, 1) := by decide +kernel
theorem dX0_force_98 : decode cX0_force 98 = .ok (.iconst 1, 1) := by decide +kernel
theorem dX0_force_99 : decode cX0_force 99 = .ok (.bastore, 1) := by decide +kernel
theorem dX0_force_100 : decode cX0_force 100 = .ok (.aload_n 0, 1) := by decide +kernel
theorem dX0_force_101 : decode cX0_force 101 = .ok (.iload_n 3, 1) := by decide +kernel
theorem dX0_force_102 : decode cX0_force 102 = .ok (.invokevirtual 98, 3) := by decide +kernel
theorem dX0_force_105 : decode cX0_force 105 = .ok (.istore 4, 2) := by decide +kernel
theorem dX0_force_107 : decode cX0_force 107 = .ok (.iload 4, 2) := by decide +kernel
theorem dX0_force_109 : decode cX0_force 109 = .ok (.ifCond .ge 11, 3) := by decide +kernel
theorem dX0_force_112 : decode cX0_force 112 = .ok (.aload_n 0, 1) := by decide +kernel
theorem dX0_force_113 : decode cX0_force 113 = .ok (.iload_n 3, 1) := by decide +kernel
theorem dX0_force_114 : decode cX0_force 114 = .ok (.invokevirtual 101, 3) := by decide +kernel
theorem dX0_force_117 : decode cX0_force 117 = .ok (.goto 25, 3) := by decide +kernel
theorem dX0_force_120 : decode cX0_force 120 = .ok (.aload_n 0, 1) := by decide +kernel
theorem dX0_force_121 : decode cX0_force 121 = .ok (.getfield 36, 3) := by decide +kernel
theorem dX0_force_124 : decode cX0_force 124 = .ok (.iload 4, 2) := by decide +kernel
theorem dX0_force_126 : decode cX0_force 126 = .ok (.baload, 1) := by decide +kernel
theorem dX0_force_127 : decode cX0_force 127 = .ok (.ifCond .eq 9, 3) := by decide +kernel
theorem dX0_force_130 : decode cX0_force 130 = .ok (.aload_n 0, 1) := by decide +kernel
theorem dX0_force_131 : decode cX0_force 131 = .ok (.invokevirtual 104, 3) := by decide +kernel
theorem dX0_force_134 : decode cX0_force 134 = .ok (.iconst (-1), 1) := by decide +kernel
theorem dX0_force_135 : decode cX0_force 135 = .ok (.ireturn, 1) := by decide +kernel
theorem dX0_force_136 : decode cX0_force 136 = .ok (.aload_n 0, 1) := by decide +kernel
theorem dX0_force_137 : decode cX0_force 137 = .ok (.iload 4, 2) := by decide +kernel
theorem dX0_force_139 : decode cX0_force 139 = .ok (.invokevirtual 88, 3) := by decide +kernel
theorem dX0_force_142 : decode cX0_force 142 = .ok (.goto (-130), 3) := by decide +kernel
theorem dX0_force_145 : decode cX0_force 145 = .ok (.iload_n 2, 1) := by decide +kernel
theorem dX0_force_146 : decode cX0_force 146 = .ok (.ireturn, 1) := by decide +kernel
abbrev cX0_push : ByteArray := prog_1_method_18_code
def yX0_push : MethodName := ⟨RX0, "push", "(I)V"⟩
theorem dX0_push_0 : decode cX0_push 0 = .ok (.aload_n 0, 1) := by decide +kernel
theorem dX0_push_1 : decode cX0_push 1 = .ok (.getfield 46, 3) := by decide +kernel
theorem dX0_push_4 : decode cX0_push 4 = .ok (.aload_n 0, 1) := by decide +kernel
theorem dX0_push_5 : decode cX0_push 5 = .ok (.getfield 85, 3) := by decide +kernel
theorem dX0_push_8 : decode cX0_push 8 = .ok (.iload_n 1, 1) := by decide +kernel
theorem dX0_push_9 : decode cX0_push 9 = .ok (.i2s, 1) := by decide +kernel
theorem dX0_push_10 : decode cX0_push 10 = .ok (.sastore, 1) := by decide +kernel
theorem dX0_push_11 : decode cX0_push 11 = .ok (.aload_n 0, 1) := by decide +kernel
theorem dX0_push_12 : decode cX0_push 12 = .ok (.dup, 1) := by decide +kernel
theorem dX0_push_13 : decode cX0_push 13 = .ok (.getfield 85, 3) := by decide +kernel
theorem dX0_push_16 : decode cX0_push 16 = .ok (.iconst 1, 1) := by decide +kernel
theorem dX0_push_17 : decode cX0_push 17 = .ok (.iadd, 1) := by decide +kernel
theorem dX0_push_18 : decode cX0_push 18 = .ok (.putfield 85, 3) := by decide +kernel
theorem dX0_push_21 : decode cX0_push 21 = .ok (.return_, 1) := by decide +kernel
abbrev cX0_collect : ByteArray := prog_1_method_24_code
def yX0_collect : MethodName := ⟨RX0, "collect", "()V"⟩
abbrev cX0_moved : ByteArray := prog_1_method_25_code
def yX0_moved : MethodName := ⟨RX0, "moved", "(I)I"⟩
abbrev cX0_shortcut : ByteArray := prog_1_method_26_code
def yX0_shortcut : MethodName := ⟨RX0, "shortcut", "(I)I"⟩
abbrev cX0_follow : ByteArray := prog_1_method_16_code
def yX0_follow : MethodName := ⟨RX0, "follow", "(I)I"⟩
theorem dX0_follow_0 : decode cX0_follow 0 = .ok (.iload_n 1, 1) := by decide +kernel
theorem dX0_follow_1 : decode cX0_follow 1 = .ok (.istore_n 2, 1) := by decide +kernel
theorem dX0_follow_2 : decode cX0_follow 2 = .ok (.aload_n 0, 1) := by decide +kernel
theorem dX0_follow_3 : decode cX0_follow 3 = .ok (.getfield 20, 3) := by decide +kernel
theorem dX0_follow_6 : decode cX0_follow 6 = .ok (.iload_n 2, 1) := by decide +kernel
theorem dX0_follow_7 : decode cX0_follow 7 = .ok (.baload, 1) := by decide +kernel
theorem dX0_follow_8 : decode cX0_follow 8 = .ok (.bipush 10, 2) := by decide +kernel
theorem dX0_follow_10 : decode cX0_follow 10 = .ok (.if_icmp .ne 13, 3) := by decide +kernel
theorem dX0_follow_13 : decode cX0_follow 13 = .ok (.aload_n 0, 1) := by decide +kernel
theorem dX0_follow_14 : decode cX0_follow 14 = .ok (.getfield 29, 3) := by decide +kernel
theorem dX0_follow_17 : decode cX0_follow 17 = .ok (.iload_n 2, 1) := by decide +kernel
theorem dX0_follow_18 : decode cX0_follow 18 = .ok (.saload, 1) := by decide +kernel
theorem dX0_follow_19 : decode cX0_follow 19 = .ok (.istore_n 2, 1) := by decide +kernel
theorem dX0_follow_20 : decode cX0_follow 20 = .ok (.goto (-18), 3) := by decide +kernel
theorem dX0_follow_23 : decode cX0_follow 23 = .ok (.iload_n 2, 1) := by decide +kernel
theorem dX0_follow_24 : decode cX0_follow 24 = .ok (.ireturn, 1) := by decide +kernel
abbrev cX0_wantedBy : ByteArray := prog_1_method_20_code
def yX0_wantedBy : MethodName := ⟨RX0, "wantedBy", "(I)I"⟩
theorem dX0_wantedBy_0 : decode cX0_wantedBy 0 = .ok (.aload_n 0, 1) := by decide +kernel
theorem dX0_wantedBy_1 : decode cX0_wantedBy 1 = .ok (.getfield 20, 3) := by decide +kernel
theorem dX0_wantedBy_4 : decode cX0_wantedBy 4 = .ok (.iload_n 1, 1) := by decide +kernel
theorem dX0_wantedBy_5 : decode cX0_wantedBy 5 = .ok (.baload, 1) := by decide +kernel
theorem dX0_wantedBy_6 : decode cX0_wantedBy 6 = .ok (.istore_n 2, 1) := by decide +kernel
theorem dX0_wantedBy_7 : decode cX0_wantedBy 7 = .ok (.iload_n 2, 1) := by decide +kernel
theorem dX0_wantedBy_8 : decode cX0_wantedBy 8 = .ok (.ifCond .ne 5, 3) := by decide +kernel
theorem dX0_wantedBy_11 : decode cX0_wantedBy 11 = .ok (.iconst (-1), 1) := by decide +kernel
theorem dX0_wantedBy_12 : decode cX0_wantedBy 12 = .ok (.ireturn, 1) := by decide +kernel
theorem dX0_wantedBy_13 : decode cX0_wantedBy 13 = .ok (.aload_n 0, 1) := by decide +kernel
theorem dX0_wantedBy_14 : decode cX0_wantedBy 14 = .ok (.aload_n 0, 1) := by decide +kernel
theorem dX0_wantedBy_15 : decode cX0_wantedBy 15 = .ok (.getfield 29, 3) := by decide +kernel
theorem dX0_wantedBy_18 : decode cX0_wantedBy 18 = .ok (.iload_n 1, 1) := by decide +kernel
theorem dX0_wantedBy_19 : decode cX0_wantedBy 19 = .ok (.saload, 1) := by decide +kernel
theorem dX0_wantedBy_20 : decode cX0_wantedBy 20 = .ok (.invokevirtual 95, 3) := by decide +kernel
theorem dX0_wantedBy_23 : decode cX0_wantedBy 23 = .ok (.istore_n 3, 1) := by decide +kernel
theorem dX0_wantedBy_24 : decode cX0_wantedBy 24 = .ok (.aload_n 0, 1) := by decide +kernel
theorem dX0_wantedBy_25 : decode cX0_wantedBy 25 = .ok (.getfield 29, 3) := by decide +kernel
theorem dX0_wantedBy_28 : decode cX0_wantedBy 28 = .ok (.iload_n 1, 1) := by decide +kernel
theorem dX0_wantedBy_29 : decode cX0_wantedBy 29 = .ok (.iload_n 3, 1) := by decide +kernel
theorem dX0_wantedBy_30 : decode cX0_wantedBy 30 = .ok (.i2s, 1) := by decide +kernel
theorem dX0_wantedBy_31 : decode cX0_wantedBy 31 = .ok (.sastore, 1) := by decide +kernel
theorem dX0_wantedBy_32 : decode cX0_wantedBy 32 = .ok (.aload_n 0, 1) := by decide +kernel
theorem dX0_wantedBy_33 : decode cX0_wantedBy 33 = .ok (.getfield 20, 3) := by decide +kernel
theorem dX0_wantedBy_36 : decode cX0_wantedBy 36 = .ok (.iload_n 3, 1) := by decide +kernel
theorem dX0_wantedBy_37 : decode cX0_wantedBy 37 = .ok (.baload, 1) := by decide +kernel
theorem dX0_wantedBy_38 : decode cX0_wantedBy 38 = .ok (.bipush 9, 2) := by decide +kernel
theorem dX0_wantedBy_40 : decode cX0_wantedBy 40 = .ok (.if_icmp .eq 5, 3) := by decide +kernel
theorem dX0_wantedBy_43 : decode cX0_wantedBy 43 = .ok (.iload_n 3, 1) := by decide +kernel
theorem dX0_wantedBy_44 : decode cX0_wantedBy 44 = .ok (.ireturn, 1) := by decide +kernel
theorem dX0_wantedBy_45 : decode cX0_wantedBy 45 = .ok (.iload_n 2, 1) := by decide +kernel
theorem dX0_wantedBy_46 : decode cX0_wantedBy 46 = .ok (.iconst 2, 1) := by decide +kernel
theorem dX0_wantedBy_47 : decode cX0_wantedBy 47 = .ok (.if_icmp .ne 34, 3) := by decide +kernel
theorem dX0_wantedBy_50 : decode cX0_wantedBy 50 = .ok (.aload_n 0, 1) := by decide +kernel
theorem dX0_wantedBy_51 : decode cX0_wantedBy 51 = .ok (.aload_n 0, 1) := by decide +kernel
theorem dX0_wantedBy_52 : decode cX0_wantedBy 52 = .ok (.getfield 29, 3) := by decide +kernel
theorem dX0_wantedBy_55 : decode cX0_wantedBy 55 = .ok (.iload_n 3, 1) := by decide +kernel
theorem dX0_wantedBy_56 : decode cX0_wantedBy 56 = .ok (.saload, 1) := by decide +kernel
theorem dX0_wantedBy_57 : decode cX0_wantedBy 57 = .ok (.invokevirtual 95, 3) := by decide +kernel
theorem dX0_wantedBy_60 : decode cX0_wantedBy 60 = .ok (.istore 4, 2) := by decide +kernel
theorem dX0_wantedBy_62 : decode cX0_wantedBy 62 = .ok (.aload_n 0, 1) := by decide +kernel
theorem dX0_wantedBy_63 : decode cX0_wantedBy 63 = .ok (.getfield 20, 3) := by decide +kernel
theorem dX0_wantedBy_66 : decode cX0_wantedBy 66 = .ok (.iload 4, 2) := by decide +kernel
theorem dX0_wantedBy_68 : decode cX0_wantedBy 68 = .ok (.baload, 1) := by decide +kernel
theorem dX0_wantedBy_69 : decode cX0_wantedBy 69 = .ok (.bipush 9, 2) := by decide +kernel
theorem dX0_wantedBy_71 : decode cX0_wantedBy 71 = .ok (.if_icmp .ne 7, 3) := by decide +kernel
theorem dX0_wantedBy_74 : decode cX0_wantedBy 74 = .ok (.iconst (-1), 1) := by decide +kernel
theorem dX0_wantedBy_75 : decode cX0_wantedBy 75 = .ok (.goto 5, 3) := by decide +kernel
theorem dX0_wantedBy_78 : decode cX0_wantedBy 78 = .ok (.iload 4, 2) := by decide +kernel
theorem dX0_wantedBy_80 : decode cX0_wantedBy 80 = .ok (.ireturn, 1) := by decide +kernel
theorem dX0_wantedBy_81 : decode cX0_wantedBy 81 = .ok (.iload_n 2, 1) := by decide +kernel
theorem dX0_wantedBy_82 : decode cX0_wantedBy 82 = .ok (.iconst 3, 1) := by decide +kernel
theorem dX0_wantedBy_83 : decode cX0_wantedBy 83 = .ok (.if_icmp .eq 16, 3) := by decide +kernel
theorem dX0_wantedBy_86 : decode cX0_wantedBy 86 = .ok (.iload_n 2, 1) := by decide +kernel
theorem dX0_wantedBy_87 : decode cX0_wantedBy 87 = .ok (.iconst 4, 1) := by decide +kernel
theorem dX0_wantedBy_88 : decode cX0_wantedBy 88 = .ok (.if_icmp .eq 11, 3) := by decide +kernel
theorem dX0_wantedBy_91 : decode cX0_wantedBy 91 = .ok (.iload_n 2, 1) := by decide +kernel
theorem dX0_wantedBy_92 : decode cX0_wantedBy 92 = .ok (.bipush 8, 2) := by decide +kernel
theorem dX0_wantedBy_94 : decode cX0_wantedBy 94 = .ok (.if_icmp .eq 5, 3) := by decide +kernel
theorem dX0_wantedBy_97 : decode cX0_wantedBy 97 = .ok (.iconst (-1), 1) := by decide +kernel
theorem dX0_wantedBy_98 : decode cX0_wantedBy 98 = .ok (.ireturn, 1) := by decide +kernel
theorem dX0_wantedBy_99 : decode cX0_wantedBy 99 = .ok (.aload_n 0, 1) := by decide +kernel
theorem dX0_wantedBy_100 : decode cX0_wantedBy 100 = .ok (.aload_n 0, 1) := by decide +kernel
theorem dX0_wantedBy_101 : decode cX0_wantedBy 101 = .ok (.getfield 33, 3) := by decide +kernel
theorem dX0_wantedBy_104 : decode cX0_wantedBy 104 = .ok (.iload_n 1, 1) := by decide +kernel
theorem dX0_wantedBy_105 : decode cX0_wantedBy 105 = .ok (.saload, 1) := by decide +kernel
theorem dX0_wantedBy_106 : decode cX0_wantedBy 106 = .ok (.invokevirtual 95, 3) := by decide +kernel
theorem dX0_wantedBy_109 : decode cX0_wantedBy 109 = .ok (.istore 4, 2) := by decide +kernel
theorem dX0_wantedBy_111 : decode cX0_wantedBy 111 = .ok (.aload_n 0, 1) := by decide +kernel
theorem dX0_wantedBy_112 : decode cX0_wantedBy 112 = .ok (.getfield 33, 3) := by decide +kernel
theorem dX0_wantedBy_115 : decode cX0_wantedBy 115 = .ok (.iload_n 1, 1) := by decide +kernel
theorem dX0_wantedBy_116 : decode cX0_wantedBy 116 = .ok (.iload 4, 2) := by decide +kernel
theorem dX0_wantedBy_118 : decode cX0_wantedBy 118 = .ok (.i2s, 1) := by decide +kernel
theorem dX0_wantedBy_119 : decode cX0_wantedBy 119 = .ok (.sastore, 1) := by decide +kernel
theorem dX0_wantedBy_120 : decode cX0_wantedBy 120 = .ok (.aload_n 0, 1) := by decide +kernel
theorem dX0_wantedBy_121 : decode cX0_wantedBy 121 = .ok (.getfield 20, 3) := by decide +kernel
theorem dX0_wantedBy_124 : decode cX0_wantedBy 124 = .ok (.iload 4, 2) := by decide +kernel
theorem dX0_wantedBy_126 : decode cX0_wantedBy 126 = .ok (.baload, 1) := by decide +kernel
theorem dX0_wantedBy_127 : decode cX0_wantedBy 127 = .ok (.bipush 9, 2) := by decide +kernel
theorem dX0_wantedBy_129 : decode cX0_wantedBy 129 = .ok (.if_icmp .ne 7, 3) := by decide +kernel
theorem dX0_wantedBy_132 : decode cX0_wantedBy 132 = .ok (.iconst (-1), 1) := by decide +kernel
theorem dX0_wantedBy_133 : decode cX0_wantedBy 133 = .ok (.goto 5, 3) := by decide +kernel
theorem dX0_wantedBy_136 : decode cX0_wantedBy 136 = .ok (.iload 4, 2) := by decide +kernel
theorem dX0_wantedBy_138 : decode cX0_wantedBy 138 = .ok (.ireturn, 1) := by decide +kernel
abbrev cX0_finish : ByteArray := prog_1_method_21_code
def yX0_finish : MethodName := ⟨RX0, "finish", "(I)V"⟩
theorem dX0_finish_0 : decode cX0_finish 0 = .ok (.aload_n 0, 1) := by decide +kernel
theorem dX0_finish_1 : decode cX0_finish 1 = .ok (.getfield 20, 3) := by decide +kernel
theorem dX0_finish_4 : decode cX0_finish 4 = .ok (.iload_n 1, 1) := by decide +kernel
theorem dX0_finish_5 : decode cX0_finish 5 = .ok (.baload, 1) := by decide +kernel
theorem dX0_finish_6 : decode cX0_finish 6 = .ok (.istore_n 2, 1) := by decide +kernel
theorem dX0_finish_7 : decode cX0_finish 7 = .ok (.aload_n 0, 1) := by decide +kernel
theorem dX0_finish_8 : decode cX0_finish 8 = .ok (.getfield 36, 3) := by decide +kernel
theorem dX0_finish_11 : decode cX0_finish 11 = .ok (.iload_n 1, 1) := by decide +kernel
theorem dX0_finish_12 : decode cX0_finish 12 = .ok (.iconst 0, 1) := by decide +kernel
theorem dX0_finish_13 : decode cX0_finish 13 = .ok (.bastore, 1) := by decide +kernel
theorem dX0_finish_14 : decode cX0_finish 14 = .ok (.iload_n 2, 1) := by decide +kernel
theorem dX0_finish_15 : decode cX0_finish 15 = .ok (.iconst 2, 1) := by decide +kernel
theorem dX0_finish_16 : decode cX0_finish 16 = .ok (.if_icmp .ne 34, 3) := by decide +kernel
theorem dX0_finish_19 : decode cX0_finish 19 = .ok (.aload_n 0, 1) := by decide +kernel
theorem dX0_finish_20 : decode cX0_finish 20 = .ok (.getfield 20, 3) := by decide +kernel
theorem dX0_finish_23 : decode cX0_finish 23 = .ok (.iload_n 1, 1) := by decide +kernel
theorem dX0_finish_24 : decode cX0_finish 24 = .ok (.bipush 10, 2) := by decide +kernel
theorem dX0_finish_26 : decode cX0_finish 26 = .ok (.bastore, 1) := by decide +kernel
theorem dX0_finish_27 : decode cX0_finish 27 = .ok (.aload_n 0, 1) := by decide +kernel
theorem dX0_finish_28 : decode cX0_finish 28 = .ok (.getfield 29, 3) := by decide +kernel
theorem dX0_finish_31 : decode cX0_finish 31 = .ok (.iload_n 1, 1) := by decide +kernel
theorem dX0_finish_32 : decode cX0_finish 32 = .ok (.aload_n 0, 1) := by decide +kernel
theorem dX0_finish_33 : decode cX0_finish 33 = .ok (.aload_n 0, 1) := by decide +kernel
theorem dX0_finish_34 : decode cX0_finish 34 = .ok (.getfield 29, 3) := by decide +kernel
theorem dX0_finish_37 : decode cX0_finish 37 = .ok (.aload_n 0, 1) := by decide +kernel
theorem dX0_finish_38 : decode cX0_finish 38 = .ok (.getfield 29, 3) := by decide +kernel
theorem dX0_finish_41 : decode cX0_finish 41 = .ok (.iload_n 1, 1) := by decide +kernel
theorem dX0_finish_42 : decode cX0_finish 42 = .ok (.saload, 1) := by decide +kernel
theorem dX0_finish_43 : decode cX0_finish 43 = .ok (.saload, 1) := by decide +kernel
theorem dX0_finish_44 : decode cX0_finish 44 = .ok (.invokevirtual 95, 3) := by decide +kernel
theorem dX0_finish_47 : decode cX0_finish 47 = .ok (.i2s, 1) := by decide +kernel
theorem dX0_finish_48 : decode cX0_finish 48 = .ok (.sastore, 1) := by decide +kernel
theorem dX0_finish_49 : decode cX0_finish 49 = .ok (.return_, 1) := by decide +kernel
theorem dX0_finish_50 : decode cX0_finish 50 = .ok (.aload_n 0, 1) := by decide +kernel
theorem dX0_finish_51 : decode cX0_finish 51 = .ok (.getfield 23, 3) := by decide +kernel
theorem dX0_finish_54 : decode cX0_finish 54 = .ok (.iload_n 1, 1) := by decide +kernel
theorem dX0_finish_55 : decode cX0_finish 55 = .ok (.iaload, 1) := by decide +kernel
theorem dX0_finish_56 : decode cX0_finish 56 = .ok (.istore_n 3, 1) := by decide +kernel
theorem dX0_finish_57 : decode cX0_finish 57 = .ok (.iconst 0, 1) := by decide +kernel
theorem dX0_finish_58 : decode cX0_finish 58 = .ok (.istore 4, 2) := by decide +kernel
theorem dX0_finish_60 : decode cX0_finish 60 = .ok (.aload_n 0, 1) := by decide +kernel
theorem dX0_finish_61 : decode cX0_finish 61 = .ok (.getfield 29, 3) := by decide +kernel
theorem dX0_finish_64 : decode cX0_finish 64 = .ok (.iload_n 1, 1) := by decide +kernel
theorem dX0_finish_65 : decode cX0_finish 65 = .ok (.saload, 1) := by decide +kernel
theorem dX0_finish_66 : decode cX0_finish 66 = .ok (.istore 5, 2) := by decide +kernel
theorem dX0_finish_68 : decode cX0_finish 68 = .ok (.iload_n 2, 1) := by decide +kernel
theorem dX0_finish_69 : decode cX0_finish 69 = .ok (.ifCond .ne 34, 3) := by decide +kernel
theorem dX0_finish_72 : decode cX0_finish 72 = .ok (.aload_n 0, 1) := by decide +kernel
theorem dX0_finish_73 : decode cX0_finish 73 = .ok (.iconst 0, 1) := by decide +kernel
theorem dX0_finish_74 : decode cX0_finish 74 = .ok (.aload_n 0, 1) := by decide +kernel
theorem dX0_finish_75 : decode cX0_finish 75 = .ok (.getfield 23, 3) := by decide +kernel
theorem dX0_finish_78 : decode cX0_finish 78 = .ok (.iload_n 1, 1) := by decide +kernel
theorem dX0_finish_79 : decode cX0_finish 79 = .ok (.iaload, 1) := by decide +kernel
theorem dX0_finish_80 : decode cX0_finish 80 = .ok (.aload_n 0, 1) := by decide +kernel
theorem dX0_finish_81 : decode cX0_finish 81 = .ok (.getfield 26, 3) := by decide +kernel
theorem dX0_finish_84 : decode cX0_finish 84 = .ok (.iload_n 1, 1) := by decide +kernel
theorem dX0_finish_85 : decode cX0_finish 85 = .ok (.iaload, 1) := by decide +kernel
theorem dX0_finish_86 : decode cX0_finish 86 = .ok (.iadd, 1) := by decide +kernel
theorem dX0_finish_87 : decode cX0_finish 87 = .ok (.aload_n 0, 1) := by decide +kernel
theorem dX0_finish_88 : decode cX0_finish 88 = .ok (.getfield 26, 3) := by decide +kernel
theorem dX0_finish_91 : decode cX0_finish 91 = .ok (.iload_n 1, 1) := by decide +kernel
theorem dX0_finish_92 : decode cX0_finish 92 = .ok (.iaload, 1) := by decide +kernel
theorem dX0_finish_93 : decode cX0_finish 93 = .ok (.iconst 0, 1) := by decide +kernel
theorem dX0_finish_94 : decode cX0_finish 94 = .ok (.iconst 0, 1) := by decide +kernel
theorem dX0_finish_95 : decode cX0_finish 95 = .ok (.invokevirtual 74, 3) := by decide +kernel
theorem dX0_finish_98 : decode cX0_finish 98 = .ok (.istore 4, 2) := by decide +kernel
theorem dX0_finish_100 : decode cX0_finish 100 = .ok (.goto 169, 3) := by decide +kernel
theorem dX0_finish_103 : decode cX0_finish 103 = .ok (.iload_n 2, 1) := by decide +kernel
theorem dX0_finish_104 : decode cX0_finish 104 = .ok (.iconst 5, 1) := by decide +kernel
theorem dX0_finish_105 : decode cX0_finish 105 = .ok (.if_icmp .ne 43, 3) := by decide +kernel
theorem dX0_finish_108 : decode cX0_finish 108 = .ok (.aload_n 0, 1) := by decide +kernel
theorem dX0_finish_109 : decode cX0_finish 109 = .ok (.getfield 23, 3) := by decide +kernel
theorem dX0_finish_112 : decode cX0_finish 112 = .ok (.iload_n 1, 1) := by decide +kernel
theorem dX0_finish_113 : decode cX0_finish 113 = .ok (.iaload, 1) := by decide +kernel
theorem dX0_finish_114 : decode cX0_finish 114 = .ok (.aload_n 0, 1) := by decide +kernel
theorem dX0_finish_115 : decode cX0_finish 115 = .ok (.getfield 23, 3) := by decide +kernel
theorem dX0_finish_118 : decode cX0_finish 118 = .ok (.iload 5, 2) := by decide +kernel
theorem dX0_finish_120 : decode cX0_finish 120 = .ok (.iaload, 1) := by decide +kernel
theorem dX0_finish_121 : decode cX0_finish 121 = .ok (.imul, 1) := by decide +kernel
theorem dX0_finish_122 : decode cX0_finish 122 = .ok (.istore_n 3, 1) := by decide +kernel
theorem dX0_finish_123 : decode cX0_finish 123 = .ok (.aload_n 0, 1) := by decide +kernel
theorem dX0_finish_124 : decode cX0_finish 124 = .ok (.iconst 5, 1) := by decide +kernel
theorem dX0_finish_125 : decode cX0_finish 125 = .ok (.aload_n 0, 1) := by decide +kernel
theorem dX0_finish_126 : decode cX0_finish 126 = .ok (.getfield 23, 3) := by decide +kernel
theorem dX0_finish_129 : decode cX0_finish 129 = .ok (.iload_n 1, 1) := by decide +kernel
theorem dX0_finish_130 : decode cX0_finish 130 = .ok (.iaload, 1) := by decide +kernel
theorem dX0_finish_131 : decode cX0_finish 131 = .ok (.iconst 0, 1) := by decide +kernel
theorem dX0_finish_132 : decode cX0_finish 132 = .ok (.aload_n 0, 1) := by decide +kernel
theorem dX0_finish_133 : decode cX0_finish 133 = .ok (.getfield 29, 3) := by decide +kernel
theorem dX0_finish_136 : decode cX0_finish 136 = .ok (.iload 5, 2) := by decide +kernel
theorem dX0_finish_138 : decode cX0_finish 138 = .ok (.saload, 1) := by decide +kernel
theorem dX0_finish_139 : decode cX0_finish 139 = .ok (.iconst 0, 1) := by decide +kernel
theorem dX0_finish_140 : decode cX0_finish 140 = .ok (.invokevirtual 74, 3) := by decide +kernel
theorem dX0_finish_143 : decode cX0_finish 143 = .ok (.istore 4, 2) := by decide +kernel
theorem dX0_finish_145 : decode cX0_finish 145 = .ok (.goto 124, 3) := by decide +kernel
theorem dX0_finish_148 : decode cX0_finish 148 = .ok (.iload_n 2, 1) := by decide +kernel
theorem dX0_finish_149 : decode cX0_finish 149 = .ok (.bipush 6, 2) := by decide +kernel
theorem dX0_finish_151 : decode cX0_finish 151 = .ok (.if_icmp .ne 39, 3) := by decide +kernel
theorem dX0_finish_154 : decode cX0_finish 154 = .ok (.aload_n 0, 1) := by decide +kernel
theorem dX0_finish_155 : decode cX0_finish 155 = .ok (.getfield 23, 3) := by decide +kernel
theorem dX0_finish_158 : decode cX0_finish 158 = .ok (.iload_n 1, 1) := by decide +kernel
theorem dX0_finish_159 : decode cX0_finish 159 = .ok (.iaload, 1) := by decide +kernel
theorem dX0_finish_160 : decode cX0_finish 160 = .ok (.aload_n 0, 1) := by decide +kernel
theorem dX0_finish_161 : decode cX0_finish 161 = .ok (.getfield 23, 3) := by decide +kernel
theorem dX0_finish_164 : decode cX0_finish 164 = .ok (.iload 5, 2) := by decide +kernel
theorem dX0_finish_166 : decode cX0_finish 166 = .ok (.iaload, 1) := by decide +kernel
theorem dX0_finish_167 : decode cX0_finish 167 = .ok (.iadd, 1) := by decide +kernel
theorem dX0_finish_168 : decode cX0_finish 168 = .ok (.istore_n 3, 1) := by decide +kernel
theorem dX0_finish_169 : decode cX0_finish 169 = .ok (.aload_n 0, 1) := by decide +kernel
theorem dX0_finish_170 : decode cX0_finish 170 = .ok (.bipush 6, 2) := by decide +kernel
theorem dX0_finish_172 : decode cX0_finish 172 = .ok (.iload_n 3, 1) := by decide +kernel
theorem dX0_finish_173 : decode cX0_finish 173 = .ok (.iconst 0, 1) := by decide +kernel
theorem dX0_finish_174 : decode cX0_finish 174 = .ok (.aload_n 0, 1) := by decide +kernel
theorem dX0_finish_175 : decode cX0_finish 175 = .ok (.getfield 29, 3) := by decide +kernel
theorem dX0_finish_178 : decode cX0_finish 178 = .ok (.iload 5, 2) := by decide +kernel
theorem dX0_finish_180 : decode cX0_finish 180 = .ok (.saload, 1) := by decide +kernel
theorem dX0_finish_181 : decode cX0_finish 181 = .ok (.iconst 0, 1) := by decide +kernel
theorem dX0_finish_182 : decode cX0_finish 182 = .ok (.invokevirtual 74, 3) := by decide +kernel
theorem dX0_finish_185 : decode cX0_finish 185 = .ok (.istore 4, 2) := by decide +kernel
theorem dX0_finish_187 : decode cX0_finish 187 = .ok (.goto 82, 3) := by decide +kernel
theorem dX0_finish_190 : decode cX0_finish 190 = .ok (.iload_n 2, 1) := by decide +kernel
theorem dX0_finish_191 : decode cX0_finish 191 = .ok (.bipush 7, 2) := by decide +kernel
theorem dX0_finish_193 : decode cX0_finish 193 = .ok (.if_icmp .ne 37, 3) := by decide +kernel
theorem dX0_finish_196 : decode cX0_finish 196 = .ok (.aload_n 0, 1) := by decide +kernel
theorem dX0_finish_197 : decode cX0_finish 197 = .ok (.getfield 23, 3) := by decide +kernel
theorem dX0_finish_200 : decode cX0_finish 200 = .ok (.iload 5, 2) := by decide +kernel
theorem dX0_finish_202 : decode cX0_finish 202 = .ok (.iaload, 1) := by decide +kernel
theorem dX0_finish_203 : decode cX0_finish 203 = .ok (.istore_n 3, 1) := by decide +kernel
theorem dX0_finish_204 : decode cX0_finish 204 = .ok (.aload_n 0, 1) := by decide +kernel
theorem dX0_finish_205 : decode cX0_finish 205 = .ok (.bipush 7, 2) := by decide +kernel
theorem dX0_finish_207 : decode cX0_finish 207 = .ok (.iconst 0, 1) := by decide +kernel
theorem dX0_finish_208 : decode cX0_finish 208 = .ok (.iconst 0, 1) := by decide +kernel
theorem dX0_finish_209 : decode cX0_finish 209 = .ok (.aload_n 0, 1) := by decide +kernel
theorem dX0_finish_210 : decode cX0_finish 210 = .ok (.getfield 33, 3) := by decide +kernel
theorem dX0_finish_213 : decode cX0_finish 213 = .ok (.iload_n 1, 1) := by decide +kernel
theorem dX0_finish_214 : decode cX0_finish 214 = .ok (.saload, 1) := by decide +kernel
theorem dX0_finish_215 : decode cX0_finish 215 = .ok (.aload_n 0, 1) := by decide +kernel
theorem dX0_finish_216 : decode cX0_finish 216 = .ok (.getfield 29, 3) := by decide +kernel
theorem dX0_finish_219 : decode cX0_finish 219 = .ok (.iload 5, 2) := by decide +kernel
theorem dX0_finish_221 : decode cX0_finish 221 = .ok (.saload, 1) := by decide +kernel
theorem dX0_finish_222 : decode cX0_finish 222 = .ok (.invokevirtual 74, 3) := by decide +kernel
theorem dX0_finish_225 : decode cX0_finish 225 = .ok (.istore 4, 2) := by decide +kernel
theorem dX0_finish_227 : decode cX0_finish 227 = .ok (.goto 42, 3) := by decide +kernel
theorem dX0_finish_230 : decode cX0_finish 230 = .ok (.aload_n 0, 1) := by decide +kernel
theorem dX0_finish_231 : decode cX0_finish 231 = .ok (.getfield 33, 3) := by decide +kernel
theorem dX0_finish_234 : decode cX0_finish 234 = .ok (.iload_n 1, 1) := by decide +kernel
theorem dX0_finish_235 : decode cX0_finish 235 = .ok (.saload, 1) := by decide +kernel
theorem dX0_finish_236 : decode cX0_finish 236 = .ok (.istore 6, 2) := by decide +kernel
theorem dX0_finish_238 : decode cX0_finish 238 = .ok (.aload_n 0, 1) := by decide +kernel
theorem dX0_finish_239 : decode cX0_finish 239 = .ok (.iload_n 2, 1) := by decide +kernel
theorem dX0_finish_240 : decode cX0_finish 240 = .ok (.aload_n 0, 1) := by decide +kernel
theorem dX0_finish_241 : decode cX0_finish 241 = .ok (.getfield 23, 3) := by decide +kernel
theorem dX0_finish_244 : decode cX0_finish 244 = .ok (.iload 5, 2) := by decide +kernel
theorem dX0_finish_246 : decode cX0_finish 246 = .ok (.iaload, 1) := by decide +kernel
theorem dX0_finish_247 : decode cX0_finish 247 = .ok (.aload_n 0, 1) := by decide +kernel
theorem dX0_finish_248 : decode cX0_finish 248 = .ok (.getfield 23, 3) := by decide +kernel
theorem dX0_finish_251 : decode cX0_finish 251 = .ok (.iload 6, 2) := by decide +kernel
theorem dX0_finish_253 : decode cX0_finish 253 = .ok (.iaload, 1) := by decide +kernel
theorem dX0_finish_254 : decode cX0_finish 254 = .ok (.invokevirtual 107, 3) := by decide +kernel
theorem dX0_finish_257 : decode cX0_finish 257 = .ok (.istore_n 3, 1) := by decide +kernel
theorem dX0_finish_258 : decode cX0_finish 258 = .ok (.aload_n 0, 1) := by decide +kernel
theorem dX0_finish_259 : decode cX0_finish 259 = .ok (.iload_n 2, 1) := by decide +kernel
theorem dX0_finish_260 : decode cX0_finish 260 = .ok (.iload 5, 2) := by decide +kernel
theorem dX0_finish_262 : decode cX0_finish 262 = .ok (.iload 6, 2) := by decide +kernel
theorem dX0_finish_264 : decode cX0_finish 264 = .ok (.invokevirtual 111, 3) := by decide +kernel
theorem dX0_finish_267 : decode cX0_finish 267 = .ok (.istore 4, 2) := by decide +kernel
theorem dX0_finish_269 : decode cX0_finish 269 = .ok (.aload_n 0, 1) := by decide +kernel
theorem dX0_finish_270 : decode cX0_finish 270 = .ok (.getfield 20, 3) := by decide +kernel
theorem dX0_finish_273 : decode cX0_finish 273 = .ok (.iload_n 1, 1) := by decide +kernel
theorem dX0_finish_274 : decode cX0_finish 274 = .ok (.bipush 9, 2) := by decide +kernel
theorem dX0_finish_276 : decode cX0_finish 276 = .ok (.bastore, 1) := by decide +kernel
theorem dX0_finish_277 : decode cX0_finish 277 = .ok (.aload_n 0, 1) := by decide +kernel
theorem dX0_finish_278 : decode cX0_finish 278 = .ok (.getfield 23, 3) := by decide +kernel
theorem dX0_finish_281 : decode cX0_finish 281 = .ok (.iload_n 1, 1) := by decide +kernel
theorem dX0_finish_282 : decode cX0_finish 282 = .ok (.iload_n 3, 1) := by decide +kernel
theorem dX0_finish_283 : decode cX0_finish 283 = .ok (.iastore, 1) := by decide +kernel
theorem dX0_finish_284 : decode cX0_finish 284 = .ok (.aload_n 0, 1) := by decide +kernel
theorem dX0_finish_285 : decode cX0_finish 285 = .ok (.getfield 29, 3) := by decide +kernel
theorem dX0_finish_288 : decode cX0_finish 288 = .ok (.iload_n 1, 1) := by decide +kernel
theorem dX0_finish_289 : decode cX0_finish 289 = .ok (.iload 4, 2) := by decide +kernel
theorem dX0_finish_291 : decode cX0_finish 291 = .ok (.i2s, 1) := by decide +kernel
theorem dX0_finish_292 : decode cX0_finish 292 = .ok (.sastore, 1) := by decide +kernel
theorem dX0_finish_293 : decode cX0_finish 293 = .ok (.return_, 1) := by decide +kernel
abbrev cX0_headOfTwo : ByteArray := prog_1_method_22_code
def yX0_headOfTwo : MethodName := ⟨RX0, "headOfTwo", "(III)I"⟩
theorem dX0_headOfTwo_0 : decode cX0_headOfTwo 0 = .ok (.iload_n 1, 1) := by decide +kernel
theorem dX0_headOfTwo_1 : decode cX0_headOfTwo 1 = .ok (.iconst 3, 1) := by decide +kernel
theorem dX0_headOfTwo_2 : decode cX0_headOfTwo 2 = .ok (.if_icmp .ne 7, 3) := by decide +kernel
theorem dX0_headOfTwo_5 : decode cX0_headOfTwo 5 = .ok (.iload_n 2, 1) := by decide +kernel
theorem dX0_headOfTwo_6 : decode cX0_headOfTwo 6 = .ok (.iload_n 3, 1) := by decide +kernel
theorem dX0_headOfTwo_7 : decode cX0_headOfTwo 7 = .ok (.iadd, 1) := by decide +kernel
theorem dX0_headOfTwo_8 : decode cX0_headOfTwo 8 = .ok (.ireturn, 1) := by decide +kernel
theorem dX0_headOfTwo_9 : decode cX0_headOfTwo 9 = .ok (.iload_n 1, 1) := by decide +kernel
theorem dX0_headOfTwo_10 : decode cX0_headOfTwo 10 = .ok (.iconst 4, 1) := by decide +kernel
theorem dX0_headOfTwo_11 : decode cX0_headOfTwo 11 = .ok (.if_icmp .ne 7, 3) := by decide +kernel
theorem dX0_headOfTwo_14 : decode cX0_headOfTwo 14 = .ok (.iload_n 2, 1) := by decide +kernel
theorem dX0_headOfTwo_15 : decode cX0_headOfTwo 15 = .ok (.iload_n 3, 1) := by decide +kernel
theorem dX0_headOfTwo_16 : decode cX0_headOfTwo 16 = .ok (.imul, 1) := by decide +kernel
theorem dX0_headOfTwo_17 : decode cX0_headOfTwo 17 = .ok (.ireturn, 1) := by decide +kernel
theorem dX0_headOfTwo_18 : decode cX0_headOfTwo 18 = .ok (.iload_n 2, 1) := by decide +kernel
theorem dX0_headOfTwo_19 : decode cX0_headOfTwo 19 = .ok (.iload_n 3, 1) := by decide +kernel
theorem dX0_headOfTwo_20 : decode cX0_headOfTwo 20 = .ok (.if_icmp .ge 7, 3) := by decide +kernel
theorem dX0_headOfTwo_23 : decode cX0_headOfTwo 23 = .ok (.iload_n 2, 1) := by decide +kernel
theorem dX0_headOfTwo_24 : decode cX0_headOfTwo 24 = .ok (.goto 4, 3) := by decide +kernel
theorem dX0_headOfTwo_27 : decode cX0_headOfTwo 27 = .ok (.iload_n 3, 1) := by decide +kernel
theorem dX0_headOfTwo_28 : decode cX0_headOfTwo 28 = .ok (.ireturn, 1) := by decide +kernel
abbrev cX0_restOfTwo : ByteArray := prog_1_method_23_code
def yX0_restOfTwo : MethodName := ⟨RX0, "restOfTwo", "(III)I"⟩
theorem dX0_restOfTwo_0 : decode cX0_restOfTwo 0 = .ok (.iload_n 1, 1) := by decide +kernel
theorem dX0_restOfTwo_1 : decode cX0_restOfTwo 1 = .ok (.bipush 8, 2) := by decide +kernel
theorem dX0_restOfTwo_3 : decode cX0_restOfTwo 3 = .ok (.if_icmp .ne 18, 3) := by decide +kernel
theorem dX0_restOfTwo_6 : decode cX0_restOfTwo 6 = .ok (.aload_n 0, 1) := by decide +kernel
theorem dX0_restOfTwo_7 : decode cX0_restOfTwo 7 = .ok (.getfield 23, 3) := by decide +kernel
theorem dX0_restOfTwo_10 : decode cX0_restOfTwo 10 = .ok (.iload_n 2, 1) := by decide +kernel
theorem dX0_restOfTwo_11 : decode cX0_restOfTwo 11 = .ok (.iaload, 1) := by decide +kernel
theorem dX0_restOfTwo_12 : decode cX0_restOfTwo 12 = .ok (.aload_n 0, 1) := by decide +kernel
theorem dX0_restOfTwo_13 : decode cX0_restOfTwo 13 = .ok (.getfield 23, 3) := by decide +kernel
theorem dX0_restOfTwo_16 : decode cX0_restOfTwo 16 = .ok (.iload_n 3, 1) := by decide +kernel
theorem dX0_restOfTwo_17 : decode cX0_restOfTwo 17 = .ok (.iaload, 1) := by decide +kernel
theorem dX0_restOfTwo_18 : decode cX0_restOfTwo 18 = .ok (.if_icmp .gt 7, 3) := by decide +kernel
theorem dX0_restOfTwo_21 : decode cX0_restOfTwo 21 = .ok (.iconst 1, 1) := by decide +kernel
theorem dX0_restOfTwo_22 : decode cX0_restOfTwo 22 = .ok (.goto 4, 3) := by decide +kernel
theorem dX0_restOfTwo_25 : decode cX0_restOfTwo 25 = .ok (.iconst 0, 1) := by decide +kernel
theorem dX0_restOfTwo_26 : decode cX0_restOfTwo 26 = .ok (.istore 4, 2) := by decide +kernel
theorem dX0_restOfTwo_28 : decode cX0_restOfTwo 28 = .ok (.iload_n 1, 1) := by decide +kernel
theorem dX0_restOfTwo_29 : decode cX0_restOfTwo 29 = .ok (.bipush 8, 2) := by decide +kernel
theorem dX0_restOfTwo_31 : decode cX0_restOfTwo 31 = .ok (.if_icmp .ne 18, 3) := by decide +kernel
theorem dX0_restOfTwo_34 : decode cX0_restOfTwo 34 = .ok (.aload_n 0, 1) := by decide +kernel
theorem dX0_restOfTwo_35 : decode cX0_restOfTwo 35 = .ok (.getfield 23, 3) := by decide +kernel
theorem dX0_restOfTwo_38 : decode cX0_restOfTwo 38 = .ok (.iload_n 3, 1) := by decide +kernel
theorem dX0_restOfTwo_39 : decode cX0_restOfTwo 39 = .ok (.iaload, 1) := by decide +kernel
theorem dX0_restOfTwo_40 : decode cX0_restOfTwo 40 = .ok (.aload_n 0, 1) := by decide +kernel
theorem dX0_restOfTwo_41 : decode cX0_restOfTwo 41 = .ok (.getfield 23, 3) := by decide +kernel
theorem dX0_restOfTwo_44 : decode cX0_restOfTwo 44 = .ok (.iload_n 2, 1) := by decide +kernel
theorem dX0_restOfTwo_45 : decode cX0_restOfTwo 45 = .ok (.iaload, 1) := by decide +kernel
theorem dX0_restOfTwo_46 : decode cX0_restOfTwo 46 = .ok (.if_icmp .gt 7, 3) := by decide +kernel
theorem dX0_restOfTwo_49 : decode cX0_restOfTwo 49 = .ok (.iconst 1, 1) := by decide +kernel
theorem dX0_restOfTwo_50 : decode cX0_restOfTwo 50 = .ok (.goto 4, 3) := by decide +kernel
theorem dX0_restOfTwo_53 : decode cX0_restOfTwo 53 = .ok (.iconst 0, 1) := by decide +kernel
theorem dX0_restOfTwo_54 : decode cX0_restOfTwo 54 = .ok (.istore 5, 2) := by decide +kernel
theorem dX0_restOfTwo_56 : decode cX0_restOfTwo 56 = .ok (.iload 4, 2) := by decide +kernel
theorem dX0_restOfTwo_58 : decode cX0_restOfTwo 58 = .ok (.ifCond .eq 12, 3) := by decide +kernel
theorem dX0_restOfTwo_61 : decode cX0_restOfTwo 61 = .ok (.aload_n 0, 1) := by decide +kernel
theorem dX0_restOfTwo_62 : decode cX0_restOfTwo 62 = .ok (.getfield 29, 3) := by decide +kernel
theorem dX0_restOfTwo_65 : decode cX0_restOfTwo 65 = .ok (.iload_n 2, 1) := by decide +kernel
theorem dX0_restOfTwo_66 : decode cX0_restOfTwo 66 = .ok (.saload, 1) := by decide +kernel
theorem dX0_restOfTwo_67 : decode cX0_restOfTwo 67 = .ok (.goto 4, 3) := by decide +kernel
theorem dX0_restOfTwo_70 : decode cX0_restOfTwo 70 = .ok (.iload_n 2, 1) := by decide +kernel
theorem dX0_restOfTwo_71 : decode cX0_restOfTwo 71 = .ok (.istore 6, 2) := by decide +kernel
theorem dX0_restOfTwo_73 : decode cX0_restOfTwo 73 = .ok (.iload 5, 2) := by decide +kernel
theorem dX0_restOfTwo_75 : decode cX0_restOfTwo 75 = .ok (.ifCond .eq 12, 3) := by decide +kernel
theorem dX0_restOfTwo_78 : decode cX0_restOfTwo 78 = .ok (.aload_n 0, 1) := by decide +kernel
theorem dX0_restOfTwo_79 : decode cX0_restOfTwo 79 = .ok (.getfield 29, 3) := by decide +kernel
theorem dX0_restOfTwo_82 : decode cX0_restOfTwo 82 = .ok (.iload_n 3, 1) := by decide +kernel
theorem dX0_restOfTwo_83 : decode cX0_restOfTwo 83 = .ok (.saload, 1) := by decide +kernel
theorem dX0_restOfTwo_84 : decode cX0_restOfTwo 84 = .ok (.goto 4, 3) := by decide +kernel
theorem dX0_restOfTwo_87 : decode cX0_restOfTwo 87 = .ok (.iload_n 3, 1) := by decide +kernel
theorem dX0_restOfTwo_88 : decode cX0_restOfTwo 88 = .ok (.istore 7, 2) := by decide +kernel
theorem dX0_restOfTwo_90 : decode cX0_restOfTwo 90 = .ok (.aload_n 0, 1) := by decide +kernel
theorem dX0_restOfTwo_91 : decode cX0_restOfTwo 91 = .ok (.iload_n 1, 1) := by decide +kernel
theorem dX0_restOfTwo_92 : decode cX0_restOfTwo 92 = .ok (.iconst 0, 1) := by decide +kernel
theorem dX0_restOfTwo_93 : decode cX0_restOfTwo 93 = .ok (.iconst 0, 1) := by decide +kernel
theorem dX0_restOfTwo_94 : decode cX0_restOfTwo 94 = .ok (.iload 6, 2) := by decide +kernel
theorem dX0_restOfTwo_96 : decode cX0_restOfTwo 96 = .ok (.iload 7, 2) := by decide +kernel
theorem dX0_restOfTwo_98 : decode cX0_restOfTwo 98 = .ok (.invokevirtual 74, 3) := by decide +kernel
theorem dX0_restOfTwo_101 : decode cX0_restOfTwo 101 = .ok (.ireturn, 1) := by decide +kernel
abbrev cX0_giveUp : ByteArray := prog_1_method_19_code
def yX0_giveUp : MethodName := ⟨RX0, "giveUp", "()V"⟩
theorem dX0_giveUp_0 : decode cX0_giveUp 0 = .ok (.iconst 0, 1) := by decide +kernel
theorem dX0_giveUp_1 : decode cX0_giveUp 1 = .ok (.istore_n 1, 1) := by decide +kernel
theorem dX0_giveUp_2 : decode cX0_giveUp 2 = .ok (.iload_n 1, 1) := by decide +kernel
theorem dX0_giveUp_3 : decode cX0_giveUp 3 = .ok (.aload_n 0, 1) := by decide +kernel
theorem dX0_giveUp_4 : decode cX0_giveUp 4 = .ok (.getfield 85, 3) := by decide +kernel
theorem dX0_giveUp_7 : decode cX0_giveUp 7 = .ok (.if_icmp .ge 21, 3) := by decide +kernel
theorem dX0_giveUp_10 : decode cX0_giveUp 10 = .ok (.aload_n 0, 1) := by decide +kernel
theorem dX0_giveUp_11 : decode cX0_giveUp 11 = .ok (.getfield 36, 3) := by decide +kernel
theorem dX0_giveUp_14 : decode cX0_giveUp 14 = .ok (.aload_n 0, 1) := by decide +kernel
theorem dX0_giveUp_15 : decode cX0_giveUp 15 = .ok (.getfield 46, 3) := by decide +kernel
theorem dX0_giveUp_18 : decode cX0_giveUp 18 = .ok (.iload_n 1, 1) := by decide +kernel
theorem dX0_giveUp_19 : decode cX0_giveUp 19 = .ok (.saload, 1) := by decide +kernel
theorem dX0_giveUp_20 : decode cX0_giveUp 20 = .ok (.iconst 0, 1) := by decide +kernel
theorem dX0_giveUp_21 : decode cX0_giveUp 21 = .ok (.bastore, 1) := by decide +kernel
theorem dX0_giveUp_22 : decode cX0_giveUp 22 = .ok (.iinc 1 1, 3) := by decide +kernel
theorem dX0_giveUp_25 : decode cX0_giveUp 25 = .ok (.goto (-23), 3) := by decide +kernel
theorem dX0_giveUp_28 : decode cX0_giveUp 28 = .ok (.aload_n 0, 1) := by decide +kernel
theorem dX0_giveUp_29 : decode cX0_giveUp 29 = .ok (.iconst 0, 1) := by decide +kernel
theorem dX0_giveUp_30 : decode cX0_giveUp 30 = .ok (.putfield 85, 3) := by decide +kernel
theorem dX0_giveUp_33 : decode cX0_giveUp 33 = .ok (.return_, 1) := by decide +kernel
abbrev cX0_element : ByteArray := prog_1_method_7_code
def yX0_element : MethodName := ⟨RX0, "element", "(II)I"⟩
theorem dX0_element_0 : decode cX0_element 0 = .ok (.aload_n 0, 1) := by decide +kernel
theorem dX0_element_1 : decode cX0_element 1 = .ok (.iload_n 1, 1) := by decide +kernel
theorem dX0_element_2 : decode cX0_element 2 = .ok (.invokevirtual 49, 3) := by decide +kernel
theorem dX0_element_5 : decode cX0_element 5 = .ok (.ifCond .eq 13, 3) := by decide +kernel
theorem dX0_element_8 : decode cX0_element 8 = .ok (.iload_n 2, 1) := by decide +kernel
theorem dX0_element_9 : decode cX0_element 9 = .ok (.ifCond .lt 9, 3) := by decide +kernel
theorem dX0_element_12 : decode cX0_element 12 = .ok (.iload_n 2, 1) := by decide +kernel
theorem dX0_element_13 : decode cX0_element 13 = .ok (.bipush 15, 2) := by decide +kernel
theorem dX0_element_15 : decode cX0_element 15 = .ok (.if_icmp .le 5, 3) := by decide +kernel
theorem dX0_element_18 : decode cX0_element 18 = .ok (.iconst 0, 1) := by decide +kernel
theorem dX0_element_19 : decode cX0_element 19 = .ok (.ireturn, 1) := by decide +kernel
theorem dX0_element_20 : decode cX0_element 20 = .ok (.aload_n 0, 1) := by decide +kernel
theorem dX0_element_21 : decode cX0_element 21 = .ok (.iload_n 1, 1) := by decide +kernel
theorem dX0_element_22 : decode cX0_element 22 = .ok (.iload_n 2, 1) := by decide +kernel
theorem dX0_element_23 : decode cX0_element 23 = .ok (.invokevirtual 63, 3) := by decide +kernel
theorem dX0_element_26 : decode cX0_element 26 = .ok (.istore_n 3, 1) := by decide +kernel
theorem dX0_element_27 : decode cX0_element 27 = .ok (.iload_n 3, 1) := by decide +kernel
theorem dX0_element_28 : decode cX0_element 28 = .ok (.ifCond .ge 7, 3) := by decide +kernel
theorem dX0_element_31 : decode cX0_element 31 = .ok (.iconst 0, 1) := by decide +kernel
theorem dX0_element_32 : decode cX0_element 32 = .ok (.goto 9, 3) := by decide +kernel
theorem dX0_element_35 : decode cX0_element 35 = .ok (.aload_n 0, 1) := by decide +kernel
theorem dX0_element_36 : decode cX0_element 36 = .ok (.getfield 23, 3) := by decide +kernel
theorem dX0_element_39 : decode cX0_element 39 = .ok (.iload_n 3, 1) := by decide +kernel
theorem dX0_element_40 : decode cX0_element 40 = .ok (.iaload, 1) := by decide +kernel
theorem dX0_element_41 : decode cX0_element 41 = .ok (.ireturn, 1) := by decide +kernel
abbrev cX0_known : ByteArray := prog_1_method_8_code
def yX0_known : MethodName := ⟨RX0, "known", "(I)I"⟩
theorem dX0_known_0 : decode cX0_known 0 = .ok (.aload_n 0, 1) := by decide +kernel
theorem dX0_known_1 : decode cX0_known 1 = .ok (.iload_n 1, 1) := by decide +kernel
theorem dX0_known_2 : decode cX0_known 2 = .ok (.invokevirtual 49, 3) := by decide +kernel
theorem dX0_known_5 : decode cX0_known 5 = .ok (.ifCond .ne 5, 3) := by decide +kernel
theorem dX0_known_8 : decode cX0_known 8 = .ok (.iconst (-1), 1) := by decide +kernel
theorem dX0_known_9 : decode cX0_known 9 = .ok (.ireturn, 1) := by decide +kernel
theorem dX0_known_10 : decode cX0_known 10 = .ok (.iconst 0, 1) := by decide +kernel
theorem dX0_known_11 : decode cX0_known 11 = .ok (.istore_n 2, 1) := by decide +kernel
theorem dX0_known_12 : decode cX0_known 12 = .ok (.iload_n 2, 1) := by decide +kernel
theorem dX0_known_13 : decode cX0_known 13 = .ok (.bipush 16, 2) := by decide +kernel
theorem dX0_known_15 : decode cX0_known 15 = .ok (.if_icmp .ge 18, 3) := by decide +kernel
theorem dX0_known_18 : decode cX0_known 18 = .ok (.aload_n 0, 1) := by decide +kernel
theorem dX0_known_19 : decode cX0_known 19 = .ok (.iload_n 1, 1) := by decide +kernel
theorem dX0_known_20 : decode cX0_known 20 = .ok (.iload_n 2, 1) := by decide +kernel
theorem dX0_known_21 : decode cX0_known 21 = .ok (.invokevirtual 63, 3) := by decide +kernel
theorem dX0_known_24 : decode cX0_known 24 = .ok (.ifCond .lt 9, 3) := by decide +kernel
theorem dX0_known_27 : decode cX0_known 27 = .ok (.iinc 2 1, 3) := by decide +kernel
theorem dX0_known_30 : decode cX0_known 30 = .ok (.goto (-18), 3) := by decide +kernel
theorem dX0_known_33 : decode cX0_known 33 = .ok (.iload_n 2, 1) := by decide +kernel
theorem dX0_known_34 : decode cX0_known 34 = .ok (.ireturn, 1) := by decide +kernel
abbrev cX0_firstAbove : ByteArray := prog_1_method_9_code
def yX0_firstAbove : MethodName := ⟨RX0, "firstAbove", "(II)I"⟩
theorem dX0_firstAbove_0 : decode cX0_firstAbove 0 = .ok (.aload_n 0, 1) := by decide +kernel
theorem dX0_firstAbove_1 : decode cX0_firstAbove 1 = .ok (.iload_n 1, 1) := by decide +kernel
theorem dX0_firstAbove_2 : decode cX0_firstAbove 2 = .ok (.invokevirtual 49, 3) := by decide +kernel
theorem dX0_firstAbove_5 : decode cX0_firstAbove 5 = .ok (.ifCond .ne 5, 3) := by decide +kernel
theorem dX0_firstAbove_8 : decode cX0_firstAbove 8 = .ok (.iconst (-1), 1) := by decide +kernel
theorem dX0_firstAbove_9 : decode cX0_firstAbove 9 = .ok (.ireturn, 1) := by decide +kernel
theorem dX0_firstAbove_10 : decode cX0_firstAbove 10 = .ok (.iconst 0, 1) := by decide +kernel
theorem dX0_firstAbove_11 : decode cX0_firstAbove 11 = .ok (.istore_n 3, 1) := by decide +kernel
theorem dX0_firstAbove_12 : decode cX0_firstAbove 12 = .ok (.iload_n 3, 1) := by decide +kernel
theorem dX0_firstAbove_13 : decode cX0_firstAbove 13 = .ok (.bipush 16, 2) := by decide +kernel
theorem dX0_firstAbove_15 : decode cX0_firstAbove 15 = .ok (.if_icmp .ge 38, 3) := by decide +kernel
theorem dX0_firstAbove_18 : decode cX0_firstAbove 18 = .ok (.aload_n 0, 1) := by decide +kernel
theorem dX0_firstAbove_19 : decode cX0_firstAbove 19 = .ok (.iload_n 1, 1) := by decide +kernel
theorem dX0_firstAbove_20 : decode cX0_firstAbove 20 = .ok (.iload_n 3, 1) := by decide +kernel
theorem dX0_firstAbove_21 : decode cX0_firstAbove 21 = .ok (.invokevirtual 63, 3) := by decide +kernel
theorem dX0_firstAbove_24 : decode cX0_firstAbove 24 = .ok (.istore 4, 2) := by decide +kernel
theorem dX0_firstAbove_26 : decode cX0_firstAbove 26 = .ok (.iload 4, 2) := by decide +kernel
theorem dX0_firstAbove_28 : decode cX0_firstAbove 28 = .ok (.ifCond .ge 6, 3) := by decide +kernel
theorem dX0_firstAbove_31 : decode cX0_firstAbove 31 = .ok (.bipush (-2), 2) := by decide +kernel
theorem dX0_firstAbove_33 : decode cX0_firstAbove 33 = .ok (.ireturn, 1) := by decide +kernel
theorem dX0_firstAbove_34 : decode cX0_firstAbove 34 = .ok (.aload_n 0, 1) := by decide +kernel
theorem dX0_firstAbove_35 : decode cX0_firstAbove 35 = .ok (.getfield 23, 3) := by decide +kernel
theorem dX0_firstAbove_38 : decode cX0_firstAbove 38 = .ok (.iload 4, 2) := by decide +kernel
theorem dX0_firstAbove_40 : decode cX0_firstAbove 40 = .ok (.iaload, 1) := by decide +kernel
theorem dX0_firstAbove_41 : decode cX0_firstAbove 41 = .ok (.iload_n 2, 1) := by decide +kernel
theorem dX0_firstAbove_42 : decode cX0_firstAbove 42 = .ok (.if_icmp .le 5, 3) := by decide +kernel
theorem dX0_firstAbove_45 : decode cX0_firstAbove 45 = .ok (.iload_n 3, 1) := by decide +kernel
theorem dX0_firstAbove_46 : decode cX0_firstAbove 46 = .ok (.ireturn, 1) := by decide +kernel
theorem dX0_firstAbove_47 : decode cX0_firstAbove 47 = .ok (.iinc 3 1, 3) := by decide +kernel
theorem dX0_firstAbove_50 : decode cX0_firstAbove 50 = .ok (.goto (-38), 3) := by decide +kernel
theorem dX0_firstAbove_53 : decode cX0_firstAbove 53 = .ok (.bipush (-2), 2) := by decide +kernel
theorem dX0_firstAbove_55 : decode cX0_firstAbove 55 = .ok (.ireturn, 1) := by decide +kernel
abbrev cX0_agree : ByteArray := prog_1_method_10_code
def yX0_agree : MethodName := ⟨RX0, "agree", "(II)I"⟩
theorem dX0_agree_0 : decode cX0_agree 0 = .ok (.aload_n 0, 1) := by decide +kernel
theorem dX0_agree_1 : decode cX0_agree 1 = .ok (.iload_n 1, 1) := by decide +kernel
theorem dX0_agree_2 : decode cX0_agree 2 = .ok (.invokevirtual 49, 3) := by decide +kernel
theorem dX0_agree_5 : decode cX0_agree 5 = .ok (.ifCond .eq 11, 3) := by decide +kernel
theorem dX0_agree_8 : decode cX0_agree 8 = .ok (.aload_n 0, 1) := by decide +kernel
theorem dX0_agree_9 : decode cX0_agree 9 = .ok (.iload_n 2, 1) := by decide +kernel
theorem dX0_agree_10 : decode cX0_agree 10 = .ok (.invokevirtual 49, 3) := by decide +kernel
theorem dX0_agree_13 : decode cX0_agree 13 = .ok (.ifCond .ne 5, 3) := by decide +kernel
theorem dX0_agree_16 : decode cX0_agree 16 = .ok (.iconst (-1), 1) := by decide +kernel
theorem dX0_agree_17 : decode cX0_agree 17 = .ok (.ireturn, 1) := by decide +kernel
theorem dX0_agree_18 : decode cX0_agree 18 = .ok (.iconst 0, 1) := by decide +kernel
theorem dX0_agree_19 : decode cX0_agree 19 = .ok (.istore_n 3, 1) := by decide +kernel
theorem dX0_agree_20 : decode cX0_agree 20 = .ok (.iconst 0, 1) := by decide +kernel
theorem dX0_agree_21 : decode cX0_agree 21 = .ok (.istore 4, 2) := by decide +kernel
theorem dX0_agree_23 : decode cX0_agree 23 = .ok (.iload 4, 2) := by decide +kernel
theorem dX0_agree_25 : decode cX0_agree 25 = .ok (.bipush 16, 2) := by decide +kernel
theorem dX0_agree_27 : decode cX0_agree 27 = .ok (.if_icmp .ge 65, 3) := by decide +kernel
theorem dX0_agree_30 : decode cX0_agree 30 = .ok (.aload_n 0, 1) := by decide +kernel
theorem dX0_agree_31 : decode cX0_agree 31 = .ok (.iload_n 1, 1) := by decide +kernel
theorem dX0_agree_32 : decode cX0_agree 32 = .ok (.iload 4, 2) := by decide +kernel
theorem dX0_agree_34 : decode cX0_agree 34 = .ok (.invokevirtual 63, 3) := by decide +kernel
theorem dX0_agree_37 : decode cX0_agree 37 = .ok (.istore 5, 2) := by decide +kernel
theorem dX0_agree_39 : decode cX0_agree 39 = .ok (.iload 5, 2) := by decide +kernel
theorem dX0_agree_41 : decode cX0_agree 41 = .ok (.ifCond .ge 5, 3) := by decide +kernel
theorem dX0_agree_44 : decode cX0_agree 44 = .ok (.iload_n 3, 1) := by decide +kernel
theorem dX0_agree_45 : decode cX0_agree 45 = .ok (.ireturn, 1) := by decide +kernel
theorem dX0_agree_46 : decode cX0_agree 46 = .ok (.aload_n 0, 1) := by decide +kernel
theorem dX0_agree_47 : decode cX0_agree 47 = .ok (.getfield 23, 3) := by decide +kernel
theorem dX0_agree_50 : decode cX0_agree 50 = .ok (.iload 5, 2) := by decide +kernel
theorem dX0_agree_52 : decode cX0_agree 52 = .ok (.iaload, 1) := by decide +kernel
theorem dX0_agree_53 : decode cX0_agree 53 = .ok (.istore 6, 2) := by decide +kernel
theorem dX0_agree_55 : decode cX0_agree 55 = .ok (.aload_n 0, 1) := by decide +kernel
theorem dX0_agree_56 : decode cX0_agree 56 = .ok (.iload_n 2, 1) := by decide +kernel
theorem dX0_agree_57 : decode cX0_agree 57 = .ok (.iload 4, 2) := by decide +kernel
theorem dX0_agree_59 : decode cX0_agree 59 = .ok (.invokevirtual 63, 3) := by decide +kernel
theorem dX0_agree_62 : decode cX0_agree 62 = .ok (.istore 7, 2) := by decide +kernel
theorem dX0_agree_64 : decode cX0_agree 64 = .ok (.iload 7, 2) := by decide +kernel
theorem dX0_agree_66 : decode cX0_agree 66 = .ok (.ifCond .ge 5, 3) := by decide +kernel
theorem dX0_agree_69 : decode cX0_agree 69 = .ok (.iload_n 3, 1) := by decide +kernel
theorem dX0_agree_70 : decode cX0_agree 70 = .ok (.ireturn, 1) := by decide +kernel
theorem dX0_agree_71 : decode cX0_agree 71 = .ok (.aload_n 0, 1) := by decide +kernel
theorem dX0_agree_72 : decode cX0_agree 72 = .ok (.getfield 23, 3) := by decide +kernel
theorem dX0_agree_75 : decode cX0_agree 75 = .ok (.iload 7, 2) := by decide +kernel
theorem dX0_agree_77 : decode cX0_agree 77 = .ok (.iaload, 1) := by decide +kernel
theorem dX0_agree_78 : decode cX0_agree 78 = .ok (.iload 6, 2) := by decide +kernel
theorem dX0_agree_80 : decode cX0_agree 80 = .ok (.if_icmp .ne 6, 3) := by decide +kernel
theorem dX0_agree_83 : decode cX0_agree 83 = .ok (.iinc 3 1, 3) := by decide +kernel
theorem dX0_agree_86 : decode cX0_agree 86 = .ok (.iinc 4 1, 3) := by decide +kernel
theorem dX0_agree_89 : decode cX0_agree 89 = .ok (.goto (-66), 3) := by decide +kernel
theorem dX0_agree_92 : decode cX0_agree 92 = .ok (.iload_n 3, 1) := by decide +kernel
theorem dX0_agree_93 : decode cX0_agree 93 = .ok (.ireturn, 1) := by decide +kernel
abbrev cX0_kind : ByteArray := prog_1_method_11_code
def yX0_kind : MethodName := ⟨RX0, "kind", "(I)I"⟩
theorem dX0_kind_0 : decode cX0_kind 0 = .ok (.aload_n 0, 1) := by decide +kernel
theorem dX0_kind_1 : decode cX0_kind 1 = .ok (.iload_n 1, 1) := by decide +kernel
theorem dX0_kind_2 : decode cX0_kind 2 = .ok (.invokevirtual 49, 3) := by decide +kernel
theorem dX0_kind_5 : decode cX0_kind 5 = .ok (.ifCond .eq 12, 3) := by decide +kernel
theorem dX0_kind_8 : decode cX0_kind 8 = .ok (.aload_n 0, 1) := by decide +kernel
theorem dX0_kind_9 : decode cX0_kind 9 = .ok (.getfield 7, 3) := by decide +kernel
theorem dX0_kind_12 : decode cX0_kind 12 = .ok (.iload_n 1, 1) := by decide +kernel
theorem dX0_kind_13 : decode cX0_kind 13 = .ok (.baload, 1) := by decide +kernel
theorem dX0_kind_14 : decode cX0_kind 14 = .ok (.goto 4, 3) := by decide +kernel
theorem dX0_kind_17 : decode cX0_kind 17 = .ok (.iconst (-1), 1) := by decide +kernel
theorem dX0_kind_18 : decode cX0_kind 18 = .ok (.ireturn, 1) := by decide +kernel
abbrev cX0_reset : ByteArray := prog_1_method_12_code
def yX0_reset : MethodName := ⟨RX0, "reset", "()V"⟩
theorem dX0_reset_0 : decode cX0_reset 0 = .ok (.iconst 0, 1) := by decide +kernel
theorem dX0_reset_1 : decode cX0_reset 1 = .ok (.istore_n 1, 1) := by decide +kernel
theorem dX0_reset_2 : decode cX0_reset 2 = .ok (.iload_n 1, 1) := by decide +kernel
theorem dX0_reset_3 : decode cX0_reset 3 = .ok (.bipush 6, 2) := by decide +kernel
theorem dX0_reset_5 : decode cX0_reset 5 = .ok (.if_icmp .ge 30, 3) := by decide +kernel
theorem dX0_reset_8 : decode cX0_reset 8 = .ok (.aload_n 0, 1) := by decide +kernel
theorem dX0_reset_9 : decode cX0_reset 9 = .ok (.getfield 7, 3) := by decide +kernel
theorem dX0_reset_12 : decode cX0_reset 12 = .ok (.iload_n 1, 1) := by decide +kernel
theorem dX0_reset_13 : decode cX0_reset 13 = .ok (.iconst 0, 1) := by decide +kernel
theorem dX0_reset_14 : decode cX0_reset 14 = .ok (.bastore, 1) := by decide +kernel
theorem dX0_reset_15 : decode cX0_reset 15 = .ok (.aload_n 0, 1) := by decide +kernel
theorem dX0_reset_16 : decode cX0_reset 16 = .ok (.getfield 13, 3) := by decide +kernel
theorem dX0_reset_19 : decode cX0_reset 19 = .ok (.iload_n 1, 1) := by decide +kernel
theorem dX0_reset_20 : decode cX0_reset 20 = .ok (.iconst 0, 1) := by decide +kernel
theorem dX0_reset_21 : decode cX0_reset 21 = .ok (.iastore, 1) := by decide +kernel
theorem dX0_reset_22 : decode cX0_reset 22 = .ok (.aload_n 0, 1) := by decide +kernel
theorem dX0_reset_23 : decode cX0_reset 23 = .ok (.getfield 17, 3) := by decide +kernel
theorem dX0_reset_26 : decode cX0_reset 26 = .ok (.iload_n 1, 1) := by decide +kernel
theorem dX0_reset_27 : decode cX0_reset 27 = .ok (.iconst 0, 1) := by decide +kernel
theorem dX0_reset_28 : decode cX0_reset 28 = .ok (.iastore, 1) := by decide +kernel
theorem dX0_reset_29 : decode cX0_reset 29 = .ok (.iinc 1 1, 3) := by decide +kernel
theorem dX0_reset_32 : decode cX0_reset 32 = .ok (.goto (-30), 3) := by decide +kernel
theorem dX0_reset_35 : decode cX0_reset 35 = .ok (.aload_n 0, 1) := by decide +kernel
theorem dX0_reset_36 : decode cX0_reset 36 = .ok (.iconst 0, 1) := by decide +kernel
theorem dX0_reset_37 : decode cX0_reset 37 = .ok (.putfield 59, 3) := by decide +kernel
theorem dX0_reset_40 : decode cX0_reset 40 = .ok (.return_, 1) := by decide +kernel
theorem q29 : (Jvm.Cond.initialized "SelectorGc") ∈ lw_all := lw_g (lw_at lw_m1 1 rfl) rfl
theorem q32 : (Jvm.Cond.instantiable "SelectorGc" (16 : Nat)) ∈ lw_all := lw_g (lw_at lw_m1 4 rfl) rfl
theorem q34 : (Jvm.Cond.instanceMethod ({ cls := "SelectorGc", name := "<init>", desc := "()V" } : Jvm.MethodName)) ∈ lw_all := lw_g (lw_at lw_m1 6 rfl) rfl
theorem q35 : (Jvm.Cond.code ({ cls := "SelectorGc", name := "<init>", desc := "()V" } : Jvm.MethodName) prog_1_method_1_code (1 : Nat) (Option.none : Option Jvm.ClassFile.FieldType)) ∈ lw_all := lw_g (lw_at lw_m1 7 rfl) rfl
theorem q36 : (Jvm.Cond.methodLink "SelectorGc" (1 : Nat) ({ cls := "java/lang/Object", name := "<init>", desc := "()V" } : Jvm.MethodName)) ∈ lw_all := lw_g (lw_at lw_m1 8 rfl) rfl
theorem q39 : (Jvm.Cond.fieldLink "SelectorGc" (7 : Nat) "SelectorGc" "definedAs" "[B") ∈ lw_all := lw_g (lw_at lw_m1 11 rfl) rfl
theorem q40 : (Jvm.Cond.fieldLink "SelectorGc" (13 : Nat) "SelectorGc" "definedA" "[I") ∈ lw_all := lw_g (lw_at lw_m1 12 rfl) rfl
theorem q41 : (Jvm.Cond.fieldLink "SelectorGc" (17 : Nat) "SelectorGc" "definedB" "[I") ∈ lw_all := lw_g (lw_at lw_m1 13 rfl) rfl
theorem q42 : (Jvm.Cond.fieldLink "SelectorGc" (59 : Nat) "SelectorGc" "built" "Z") ∈ lw_all := lw_g (lw_at lw_m1 14 rfl) rfl
theorem q43 : (Jvm.Cond.fieldLink "SelectorGc" (67 : Nat) "SelectorGc" "base" "I") ∈ lw_all := lw_g (lw_at lw_m1 15 rfl) rfl
theorem q44 : (Jvm.Cond.fieldLink "SelectorGc" (71 : Nat) "SelectorGc" "top" "I") ∈ lw_all := lw_g (lw_at lw_m1 16 rfl) rfl
theorem q45 : (Jvm.Cond.fieldLink "SelectorGc" (20 : Nat) "SelectorGc" "sort" "[B") ∈ lw_all := lw_g (lw_at lw_m1 17 rfl) rfl
theorem q46 : (Jvm.Cond.fieldLink "SelectorGc" (23 : Nat) "SelectorGc" "number" "[I") ∈ lw_all := lw_g (lw_at lw_m1 18 rfl) rfl
theorem q47 : (Jvm.Cond.fieldLink "SelectorGc" (26 : Nat) "SelectorGc" "step" "[I") ∈ lw_all := lw_g (lw_at lw_m1 19 rfl) rfl
theorem q48 : (Jvm.Cond.fieldLink "SelectorGc" (29 : Nat) "SelectorGc" "left" "[S") ∈ lw_all := lw_g (lw_at lw_m1 20 rfl) rfl
theorem q49 : (Jvm.Cond.fieldLink "SelectorGc" (33 : Nat) "SelectorGc" "right" "[S") ∈ lw_all := lw_g (lw_at lw_m1 21 rfl) rfl
theorem q50 : (Jvm.Cond.fieldLink "SelectorGc" (36 : Nat) "SelectorGc" "busy" "[Z") ∈ lw_all := lw_g (lw_at lw_m1 22 rfl) rfl
theorem q51 : (Jvm.Cond.fieldLink "SelectorGc" (40 : Nat) "SelectorGc" "movedTo" "[S") ∈ lw_all := lw_g (lw_at lw_m1 23 rfl) rfl
theorem q52 : (Jvm.Cond.fieldLink "SelectorGc" (43 : Nat) "SelectorGc" "root" "[S") ∈ lw_all := lw_g (lw_at lw_m1 24 rfl) rfl
theorem q53 : (Jvm.Cond.fieldLink "SelectorGc" (46 : Nat) "SelectorGc" "stack" "[S") ∈ lw_all := lw_g (lw_at lw_m1 25 rfl) rfl
theorem q54 : (Jvm.Cond.fieldLink "SelectorGc" (85 : Nat) "SelectorGc" "stackTop" "I") ∈ lw_all := lw_g (lw_at lw_m1 26 rfl) rfl
theorem q55 : (Jvm.Cond.laysFinal "SelectorGc" "SelectorGc" "definedAs" "[B") ∈ lw_all := lw_g (lw_at lw_m1 27 rfl) rfl
theorem q56 : (Jvm.Cond.soleField "SelectorGc" "definedAs") ∈ lw_all := lw_g (lw_at lw_m1 28 rfl) rfl
theorem q57 : (Jvm.Cond.laysFinal "SelectorGc" "SelectorGc" "definedA" "[I") ∈ lw_all := lw_g (lw_at lw_m1 29 rfl) rfl
theorem q58 : (Jvm.Cond.soleField "SelectorGc" "definedA") ∈ lw_all := lw_g (lw_at lw_m1 30 rfl) rfl
theorem q59 : (Jvm.Cond.laysFinal "SelectorGc" "SelectorGc" "definedB" "[I") ∈ lw_all := lw_g (lw_at lw_m1 31 rfl) rfl
theorem q60 : (Jvm.Cond.soleField "SelectorGc" "definedB") ∈ lw_all := lw_g (lw_at lw_m1 32 rfl) rfl
theorem q61 : (Jvm.Cond.lays "SelectorGc" "SelectorGc" "built" "Z") ∈ lw_all := lw_g (lw_at lw_m1 33 rfl) rfl
theorem q62 : (Jvm.Cond.soleField "SelectorGc" "built") ∈ lw_all := lw_g (lw_at lw_m1 34 rfl) rfl
theorem q63 : (Jvm.Cond.lays "SelectorGc" "SelectorGc" "base" "I") ∈ lw_all := lw_g (lw_at lw_m1 35 rfl) rfl
theorem q64 : (Jvm.Cond.soleField "SelectorGc" "base") ∈ lw_all := lw_g (lw_at lw_m1 36 rfl) rfl
theorem q65 : (Jvm.Cond.lays "SelectorGc" "SelectorGc" "top" "I") ∈ lw_all := lw_g (lw_at lw_m1 37 rfl) rfl
theorem q66 : (Jvm.Cond.soleField "SelectorGc" "top") ∈ lw_all := lw_g (lw_at lw_m1 38 rfl) rfl
theorem q67 : (Jvm.Cond.laysFinal "SelectorGc" "SelectorGc" "sort" "[B") ∈ lw_all := lw_g (lw_at lw_m1 39 rfl) rfl
theorem q68 : (Jvm.Cond.soleField "SelectorGc" "sort") ∈ lw_all := lw_g (lw_at lw_m1 40 rfl) rfl
theorem q69 : (Jvm.Cond.laysFinal "SelectorGc" "SelectorGc" "number" "[I") ∈ lw_all := lw_g (lw_at lw_m1 41 rfl) rfl
theorem q70 : (Jvm.Cond.soleField "SelectorGc" "number") ∈ lw_all := lw_g (lw_at lw_m1 42 rfl) rfl
theorem q71 : (Jvm.Cond.laysFinal "SelectorGc" "SelectorGc" "step" "[I") ∈ lw_all := lw_g (lw_at lw_m1 43 rfl) rfl
theorem q72 : (Jvm.Cond.soleField "SelectorGc" "step") ∈ lw_all := lw_g (lw_at lw_m1 44 rfl) rfl
theorem q73 : (Jvm.Cond.laysFinal "SelectorGc" "SelectorGc" "left" "[S") ∈ lw_all := lw_g (lw_at lw_m1 45 rfl) rfl
theorem q74 : (Jvm.Cond.soleField "SelectorGc" "left") ∈ lw_all := lw_g (lw_at lw_m1 46 rfl) rfl
theorem q75 : (Jvm.Cond.laysFinal "SelectorGc" "SelectorGc" "right" "[S") ∈ lw_all := lw_g (lw_at lw_m1 47 rfl) rfl
theorem q76 : (Jvm.Cond.soleField "SelectorGc" "right") ∈ lw_all := lw_g (lw_at lw_m1 48 rfl) rfl
theorem q77 : (Jvm.Cond.laysFinal "SelectorGc" "SelectorGc" "busy" "[Z") ∈ lw_all := lw_g (lw_at lw_m1 49 rfl) rfl
theorem q78 : (Jvm.Cond.soleField "SelectorGc" "busy") ∈ lw_all := lw_g (lw_at lw_m1 50 rfl) rfl
theorem q79 : (Jvm.Cond.laysFinal "SelectorGc" "SelectorGc" "movedTo" "[S") ∈ lw_all := lw_g (lw_at lw_m1 51 rfl) rfl
theorem q80 : (Jvm.Cond.soleField "SelectorGc" "movedTo") ∈ lw_all := lw_g (lw_at lw_m1 52 rfl) rfl
theorem q81 : (Jvm.Cond.laysFinal "SelectorGc" "SelectorGc" "root" "[S") ∈ lw_all := lw_g (lw_at lw_m1 53 rfl) rfl
theorem q82 : (Jvm.Cond.soleField "SelectorGc" "root") ∈ lw_all := lw_g (lw_at lw_m1 54 rfl) rfl
theorem q83 : (Jvm.Cond.laysFinal "SelectorGc" "SelectorGc" "stack" "[S") ∈ lw_all := lw_g (lw_at lw_m1 55 rfl) rfl
theorem q84 : (Jvm.Cond.soleField "SelectorGc" "stack") ∈ lw_all := lw_g (lw_at lw_m1 56 rfl) rfl
theorem q85 : (Jvm.Cond.lays "SelectorGc" "SelectorGc" "stackTop" "I") ∈ lw_all := lw_g (lw_at lw_m1 57 rfl) rfl
theorem q86 : (Jvm.Cond.soleField "SelectorGc" "stackTop") ∈ lw_all := lw_g (lw_at lw_m1 58 rfl) rfl
theorem q87 : (Jvm.Cond.superclass "SelectorGc" "java/lang/Object") ∈ lw_all := lw_g (lw_at lw_m1 59 rfl) rfl
theorem q93 : (Jvm.Cond.instanceMethod ({ cls := "SelectorGc", name := "define", desc := "(IIII)Z" } : Jvm.MethodName)) ∈ lw_all := lw_g (lw_at lw_m1 65 rfl) rfl
theorem q94 : (Jvm.Cond.selects "SelectorGc" ({ cls := "SelectorGc", name := "define", desc := "(IIII)Z" } : Jvm.MethodName) ({ cls := "SelectorGc", name := "define", desc := "(IIII)Z" } : Jvm.MethodName)) ∈ lw_all := lw_g (lw_at lw_m1 66 rfl) rfl
theorem q95 : (Jvm.Cond.code ({ cls := "SelectorGc", name := "define", desc := "(IIII)Z" } : Jvm.MethodName) prog_1_method_2_code (5 : Nat) (Option.some Jvm.ClassFile.FieldType.boolean)) ∈ lw_all := lw_g (lw_at lw_m1 67 rfl) rfl
theorem q96 : (Jvm.Cond.methodLink "SelectorGc" (49 : Nat) ({ cls := "SelectorGc", name := "isSequence", desc := "(I)Z" } : Jvm.MethodName)) ∈ lw_all := lw_g (lw_at lw_m1 68 rfl) rfl
theorem q97 : (Jvm.Cond.privateMethod ({ cls := "SelectorGc", name := "isSequence", desc := "(I)Z" } : Jvm.MethodName)) ∈ lw_tbl := lw_at lw_m1 69 rfl
theorem q98 : (Jvm.Cond.instanceMethod ({ cls := "SelectorGc", name := "isSequence", desc := "(I)Z" } : Jvm.MethodName)) ∈ lw_all := lw_g (lw_at lw_m1 70 rfl) rfl
theorem q99 : (Jvm.Cond.code ({ cls := "SelectorGc", name := "isSequence", desc := "(I)Z" } : Jvm.MethodName) prog_1_method_3_code (2 : Nat) (Option.some Jvm.ClassFile.FieldType.boolean)) ∈ lw_all := lw_g (lw_at lw_m1 71 rfl) rfl
theorem q100 : (Jvm.Cond.methodLink "SelectorGc" (53 : Nat) ({ cls := "SelectorGc", name := "worksOnA", desc := "(I)Z" } : Jvm.MethodName)) ∈ lw_all := lw_g (lw_at lw_m1 72 rfl) rfl
theorem q101 : (Jvm.Cond.privateMethod ({ cls := "SelectorGc", name := "worksOnA", desc := "(I)Z" } : Jvm.MethodName)) ∈ lw_tbl := lw_at lw_m1 73 rfl
theorem q102 : (Jvm.Cond.instanceMethod ({ cls := "SelectorGc", name := "worksOnA", desc := "(I)Z" } : Jvm.MethodName)) ∈ lw_all := lw_g (lw_at lw_m1 74 rfl) rfl
theorem q103 : (Jvm.Cond.code ({ cls := "SelectorGc", name := "worksOnA", desc := "(I)Z" } : Jvm.MethodName) prog_1_method_4_code (2 : Nat) (Option.some Jvm.ClassFile.FieldType.boolean)) ∈ lw_all := lw_g (lw_at lw_m1 75 rfl) rfl
theorem q104 : (Jvm.Cond.methodLink "SelectorGc" (56 : Nat) ({ cls := "SelectorGc", name := "worksOnB", desc := "(I)Z" } : Jvm.MethodName)) ∈ lw_all := lw_g (lw_at lw_m1 76 rfl) rfl
theorem q105 : (Jvm.Cond.privateMethod ({ cls := "SelectorGc", name := "worksOnB", desc := "(I)Z" } : Jvm.MethodName)) ∈ lw_tbl := lw_at lw_m1 77 rfl
theorem q106 : (Jvm.Cond.instanceMethod ({ cls := "SelectorGc", name := "worksOnB", desc := "(I)Z" } : Jvm.MethodName)) ∈ lw_all := lw_g (lw_at lw_m1 78 rfl) rfl
theorem q107 : (Jvm.Cond.code ({ cls := "SelectorGc", name := "worksOnB", desc := "(I)Z" } : Jvm.MethodName) prog_1_method_5_code (2 : Nat) (Option.some Jvm.ClassFile.FieldType.boolean)) ∈ lw_all := lw_g (lw_at lw_m1 79 rfl) rfl
theorem q109 : (Jvm.Cond.instanceMethod ({ cls := "SelectorGc", name := "ready", desc := "(II)Z" } : Jvm.MethodName)) ∈ lw_all := lw_g (lw_at lw_m1 81 rfl) rfl
theorem q110 : (Jvm.Cond.selects "SelectorGc" ({ cls := "SelectorGc", name := "ready", desc := "(II)Z" } : Jvm.MethodName) ({ cls := "SelectorGc", name := "ready", desc := "(II)Z" } : Jvm.MethodName)) ∈ lw_all := lw_g (lw_at lw_m1 82 rfl) rfl
theorem q111 : (Jvm.Cond.code ({ cls := "SelectorGc", name := "ready", desc := "(II)Z" } : Jvm.MethodName) prog_1_method_6_code (3 : Nat) (Option.some Jvm.ClassFile.FieldType.boolean)) ∈ lw_all := lw_g (lw_at lw_m1 83 rfl) rfl
theorem q112 : (Jvm.Cond.methodLink "SelectorGc" (63 : Nat) ({ cls := "SelectorGc", name := "reach", desc := "(II)I" } : Jvm.MethodName)) ∈ lw_all := lw_g (lw_at lw_m1 84 rfl) rfl
theorem q113 : (Jvm.Cond.privateMethod ({ cls := "SelectorGc", name := "reach", desc := "(II)I" } : Jvm.MethodName)) ∈ lw_tbl := lw_at lw_m1 85 rfl
theorem q114 : (Jvm.Cond.instanceMethod ({ cls := "SelectorGc", name := "reach", desc := "(II)I" } : Jvm.MethodName)) ∈ lw_all := lw_g (lw_at lw_m1 86 rfl) rfl
theorem q115 : (Jvm.Cond.code ({ cls := "SelectorGc", name := "reach", desc := "(II)I" } : Jvm.MethodName) prog_1_method_15_code (5 : Nat) (Option.some Jvm.ClassFile.FieldType.int)) ∈ lw_all := lw_g (lw_at lw_m1 87 rfl) rfl
theorem q116 : (Jvm.Cond.methodLink "SelectorGc" (78 : Nat) ({ cls := "SelectorGc", name := "build", desc := "()V" } : Jvm.MethodName)) ∈ lw_all := lw_g (lw_at lw_m1 88 rfl) rfl
theorem q117 : (Jvm.Cond.privateMethod ({ cls := "SelectorGc", name := "build", desc := "()V" } : Jvm.MethodName)) ∈ lw_tbl := lw_at lw_m1 89 rfl
theorem q118 : (Jvm.Cond.instanceMethod ({ cls := "SelectorGc", name := "build", desc := "()V" } : Jvm.MethodName)) ∈ lw_all := lw_g (lw_at lw_m1 90 rfl) rfl
theorem q119 : (Jvm.Cond.code ({ cls := "SelectorGc", name := "build", desc := "()V" } : Jvm.MethodName) prog_1_method_13_code (6 : Nat) (Option.none : Option Jvm.ClassFile.FieldType)) ∈ lw_all := lw_g (lw_at lw_m1 91 rfl) rfl
theorem q120 : (Jvm.Cond.methodLink "SelectorGc" (74 : Nat) ({ cls := "SelectorGc", name := "allocate", desc := "(IIIII)I" } : Jvm.MethodName)) ∈ lw_all := lw_g (lw_at lw_m1 92 rfl) rfl
theorem q121 : (Jvm.Cond.privateMethod ({ cls := "SelectorGc", name := "allocate", desc := "(IIIII)I" } : Jvm.MethodName)) ∈ lw_tbl := lw_at lw_m1 93 rfl
theorem q122 : (Jvm.Cond.instanceMethod ({ cls := "SelectorGc", name := "allocate", desc := "(IIIII)I" } : Jvm.MethodName)) ∈ lw_all := lw_g (lw_at lw_m1 94 rfl) rfl
theorem q123 : (Jvm.Cond.code ({ cls := "SelectorGc", name := "allocate", desc := "(IIIII)I" } : Jvm.MethodName) prog_1_method_14_code (7 : Nat) (Option.some Jvm.ClassFile.FieldType.int)) ∈ lw_all := lw_g (lw_at lw_m1 95 rfl) rfl
theorem q124 : (Jvm.Cond.methodLink "SelectorGc" (81 : Nat) ({ cls := "SelectorGc", name := "force", desc := "(I)I" } : Jvm.MethodName)) ∈ lw_all := lw_g (lw_at lw_m1 96 rfl) rfl
theorem q125 : (Jvm.Cond.privateMethod ({ cls := "SelectorGc", name := "force", desc := "(I)I" } : Jvm.MethodName)) ∈ lw_tbl := lw_at lw_m1 97 rfl
theorem q126 : (Jvm.Cond.instanceMethod ({ cls := "SelectorGc", name := "force", desc := "(I)I" } : Jvm.MethodName)) ∈ lw_all := lw_g (lw_at lw_m1 98 rfl) rfl
theorem q127 : (Jvm.Cond.code ({ cls := "SelectorGc", name := "force", desc := "(I)I" } : Jvm.MethodName) prog_1_method_17_code (5 : Nat) (Option.some Jvm.ClassFile.FieldType.int)) ∈ lw_all := lw_g (lw_at lw_m1 99 rfl) rfl
theorem q128 : (Jvm.Cond.methodLink "SelectorGc" (88 : Nat) ({ cls := "SelectorGc", name := "push", desc := "(I)V" } : Jvm.MethodName)) ∈ lw_all := lw_g (lw_at lw_m1 100 rfl) rfl
theorem q129 : (Jvm.Cond.privateMethod ({ cls := "SelectorGc", name := "push", desc := "(I)V" } : Jvm.MethodName)) ∈ lw_tbl := lw_at lw_m1 101 rfl
theorem q130 : (Jvm.Cond.instanceMethod ({ cls := "SelectorGc", name := "push", desc := "(I)V" } : Jvm.MethodName)) ∈ lw_all := lw_g (lw_at lw_m1 102 rfl) rfl
theorem q131 : (Jvm.Cond.code ({ cls := "SelectorGc", name := "push", desc := "(I)V" } : Jvm.MethodName) prog_1_method_18_code (2 : Nat) (Option.none : Option Jvm.ClassFile.FieldType)) ∈ lw_all := lw_g (lw_at lw_m1 103 rfl) rfl
theorem q132 : (Jvm.Cond.methodLink "SelectorGc" (92 : Nat) ({ cls := "SelectorGc", name := "collect", desc := "()V" } : Jvm.MethodName)) ∈ lw_all := lw_g (lw_at lw_m1 104 rfl) rfl
theorem q133 : (Jvm.Cond.privateMethod ({ cls := "SelectorGc", name := "collect", desc := "()V" } : Jvm.MethodName)) ∈ lw_tbl := lw_at lw_m1 105 rfl
theorem q134 : (Jvm.Cond.instanceMethod ({ cls := "SelectorGc", name := "collect", desc := "()V" } : Jvm.MethodName)) ∈ lw_all := lw_g (lw_at lw_m1 106 rfl) rfl
theorem q135 : (Jvm.Cond.code ({ cls := "SelectorGc", name := "collect", desc := "()V" } : Jvm.MethodName) prog_1_method_24_code (4 : Nat) (Option.none : Option Jvm.ClassFile.FieldType)) ∈ lw_all := lw_g (lw_at lw_m1 107 rfl) rfl
theorem q136 : (Jvm.Cond.methodLink "SelectorGc" (114 : Nat) ({ cls := "SelectorGc", name := "moved", desc := "(I)I" } : Jvm.MethodName)) ∈ lw_all := lw_g (lw_at lw_m1 108 rfl) rfl
theorem q137 : (Jvm.Cond.privateMethod ({ cls := "SelectorGc", name := "moved", desc := "(I)I" } : Jvm.MethodName)) ∈ lw_tbl := lw_at lw_m1 109 rfl
theorem q138 : (Jvm.Cond.instanceMethod ({ cls := "SelectorGc", name := "moved", desc := "(I)I" } : Jvm.MethodName)) ∈ lw_all := lw_g (lw_at lw_m1 110 rfl) rfl
theorem q139 : (Jvm.Cond.code ({ cls := "SelectorGc", name := "moved", desc := "(I)I" } : Jvm.MethodName) prog_1_method_25_code (4 : Nat) (Option.some Jvm.ClassFile.FieldType.int)) ∈ lw_all := lw_g (lw_at lw_m1 111 rfl) rfl
theorem q140 : (Jvm.Cond.methodLink "SelectorGc" (117 : Nat) ({ cls := "SelectorGc", name := "shortcut", desc := "(I)I" } : Jvm.MethodName)) ∈ lw_all := lw_g (lw_at lw_m1 112 rfl) rfl
theorem q141 : (Jvm.Cond.privateMethod ({ cls := "SelectorGc", name := "shortcut", desc := "(I)I" } : Jvm.MethodName)) ∈ lw_tbl := lw_at lw_m1 113 rfl
theorem q142 : (Jvm.Cond.instanceMethod ({ cls := "SelectorGc", name := "shortcut", desc := "(I)I" } : Jvm.MethodName)) ∈ lw_all := lw_g (lw_at lw_m1 114 rfl) rfl
theorem q143 : (Jvm.Cond.code ({ cls := "SelectorGc", name := "shortcut", desc := "(I)I" } : Jvm.MethodName) prog_1_method_26_code (5 : Nat) (Option.some Jvm.ClassFile.FieldType.int)) ∈ lw_all := lw_g (lw_at lw_m1 115 rfl) rfl
theorem q144 : (Jvm.Cond.methodLink "SelectorGc" (95 : Nat) ({ cls := "SelectorGc", name := "follow", desc := "(I)I" } : Jvm.MethodName)) ∈ lw_all := lw_g (lw_at lw_m1 116 rfl) rfl
theorem q145 : (Jvm.Cond.privateMethod ({ cls := "SelectorGc", name := "follow", desc := "(I)I" } : Jvm.MethodName)) ∈ lw_tbl := lw_at lw_m1 117 rfl
theorem q146 : (Jvm.Cond.instanceMethod ({ cls := "SelectorGc", name := "follow", desc := "(I)I" } : Jvm.MethodName)) ∈ lw_all := lw_g (lw_at lw_m1 118 rfl) rfl
theorem q147 : (Jvm.Cond.code ({ cls := "SelectorGc", name := "follow", desc := "(I)I" } : Jvm.MethodName) prog_1_method_16_code (3 : Nat) (Option.some Jvm.ClassFile.FieldType.int)) ∈ lw_all := lw_g (lw_at lw_m1 119 rfl) rfl
theorem q148 : (Jvm.Cond.methodLink "SelectorGc" (98 : Nat) ({ cls := "SelectorGc", name := "wantedBy", desc := "(I)I" } : Jvm.MethodName)) ∈ lw_all := lw_g (lw_at lw_m1 120 rfl) rfl
theorem q149 : (Jvm.Cond.privateMethod ({ cls := "SelectorGc", name := "wantedBy", desc := "(I)I" } : Jvm.MethodName)) ∈ lw_tbl := lw_at lw_m1 121 rfl
theorem q150 : (Jvm.Cond.instanceMethod ({ cls := "SelectorGc", name := "wantedBy", desc := "(I)I" } : Jvm.MethodName)) ∈ lw_all := lw_g (lw_at lw_m1 122 rfl) rfl
theorem q151 : (Jvm.Cond.code ({ cls := "SelectorGc", name := "wantedBy", desc := "(I)I" } : Jvm.MethodName) prog_1_method_20_code (5 : Nat) (Option.some Jvm.ClassFile.FieldType.int)) ∈ lw_all := lw_g (lw_at lw_m1 123 rfl) rfl
theorem q152 : (Jvm.Cond.methodLink "SelectorGc" (101 : Nat) ({ cls := "SelectorGc", name := "finish", desc := "(I)V" } : Jvm.MethodName)) ∈ lw_all := lw_g (lw_at lw_m1 124 rfl) rfl
theorem q153 : (Jvm.Cond.privateMethod ({ cls := "SelectorGc", name := "finish", desc := "(I)V" } : Jvm.MethodName)) ∈ lw_tbl := lw_at lw_m1 125 rfl
theorem q154 : (Jvm.Cond.instanceMethod ({ cls := "SelectorGc", name := "finish", desc := "(I)V" } : Jvm.MethodName)) ∈ lw_all := lw_g (lw_at lw_m1 126 rfl) rfl
theorem q155 : (Jvm.Cond.code ({ cls := "SelectorGc", name := "finish", desc := "(I)V" } : Jvm.MethodName) prog_1_method_21_code (7 : Nat) (Option.none : Option Jvm.ClassFile.FieldType)) ∈ lw_all := lw_g (lw_at lw_m1 127 rfl) rfl
theorem q156 : (Jvm.Cond.methodLink "SelectorGc" (107 : Nat) ({ cls := "SelectorGc", name := "headOfTwo", desc := "(III)I" } : Jvm.MethodName)) ∈ lw_all := lw_g (lw_at lw_m1 128 rfl) rfl
theorem q157 : (Jvm.Cond.privateMethod ({ cls := "SelectorGc", name := "headOfTwo", desc := "(III)I" } : Jvm.MethodName)) ∈ lw_tbl := lw_at lw_m1 129 rfl
theorem q158 : (Jvm.Cond.instanceMethod ({ cls := "SelectorGc", name := "headOfTwo", desc := "(III)I" } : Jvm.MethodName)) ∈ lw_all := lw_g (lw_at lw_m1 130 rfl) rfl
theorem q159 : (Jvm.Cond.code ({ cls := "SelectorGc", name := "headOfTwo", desc := "(III)I" } : Jvm.MethodName) prog_1_method_22_code (4 : Nat) (Option.some Jvm.ClassFile.FieldType.int)) ∈ lw_all := lw_g (lw_at lw_m1 131 rfl) rfl
theorem q160 : (Jvm.Cond.methodLink "SelectorGc" (111 : Nat) ({ cls := "SelectorGc", name := "restOfTwo", desc := "(III)I" } : Jvm.MethodName)) ∈ lw_all := lw_g (lw_at lw_m1 132 rfl) rfl
theorem q161 : (Jvm.Cond.privateMethod ({ cls := "SelectorGc", name := "restOfTwo", desc := "(III)I" } : Jvm.MethodName)) ∈ lw_tbl := lw_at lw_m1 133 rfl
theorem q162 : (Jvm.Cond.instanceMethod ({ cls := "SelectorGc", name := "restOfTwo", desc := "(III)I" } : Jvm.MethodName)) ∈ lw_all := lw_g (lw_at lw_m1 134 rfl) rfl
theorem q163 : (Jvm.Cond.code ({ cls := "SelectorGc", name := "restOfTwo", desc := "(III)I" } : Jvm.MethodName) prog_1_method_23_code (8 : Nat) (Option.some Jvm.ClassFile.FieldType.int)) ∈ lw_all := lw_g (lw_at lw_m1 135 rfl) rfl
theorem q164 : (Jvm.Cond.methodLink "SelectorGc" (104 : Nat) ({ cls := "SelectorGc", name := "giveUp", desc := "()V" } : Jvm.MethodName)) ∈ lw_all := lw_g (lw_at lw_m1 136 rfl) rfl
theorem q165 : (Jvm.Cond.privateMethod ({ cls := "SelectorGc", name := "giveUp", desc := "()V" } : Jvm.MethodName)) ∈ lw_tbl := lw_at lw_m1 137 rfl
theorem q166 : (Jvm.Cond.instanceMethod ({ cls := "SelectorGc", name := "giveUp", desc := "()V" } : Jvm.MethodName)) ∈ lw_all := lw_g (lw_at lw_m1 138 rfl) rfl
theorem q167 : (Jvm.Cond.code ({ cls := "SelectorGc", name := "giveUp", desc := "()V" } : Jvm.MethodName) prog_1_method_19_code (2 : Nat) (Option.none : Option Jvm.ClassFile.FieldType)) ∈ lw_all := lw_g (lw_at lw_m1 139 rfl) rfl
theorem q169 : (Jvm.Cond.instanceMethod ({ cls := "SelectorGc", name := "element", desc := "(II)I" } : Jvm.MethodName)) ∈ lw_all := lw_g (lw_at lw_m1 141 rfl) rfl
theorem q170 : (Jvm.Cond.selects "SelectorGc" ({ cls := "SelectorGc", name := "element", desc := "(II)I" } : Jvm.MethodName) ({ cls := "SelectorGc", name := "element", desc := "(II)I" } : Jvm.MethodName)) ∈ lw_all := lw_g (lw_at lw_m1 142 rfl) rfl
theorem q171 : (Jvm.Cond.code ({ cls := "SelectorGc", name := "element", desc := "(II)I" } : Jvm.MethodName) prog_1_method_7_code (4 : Nat) (Option.some Jvm.ClassFile.FieldType.int)) ∈ lw_all := lw_g (lw_at lw_m1 143 rfl) rfl
theorem q173 : (Jvm.Cond.instanceMethod ({ cls := "SelectorGc", name := "known", desc := "(I)I" } : Jvm.MethodName)) ∈ lw_all := lw_g (lw_at lw_m1 145 rfl) rfl
theorem q174 : (Jvm.Cond.selects "SelectorGc" ({ cls := "SelectorGc", name := "known", desc := "(I)I" } : Jvm.MethodName) ({ cls := "SelectorGc", name := "known", desc := "(I)I" } : Jvm.MethodName)) ∈ lw_all := lw_g (lw_at lw_m1 146 rfl) rfl
theorem q175 : (Jvm.Cond.code ({ cls := "SelectorGc", name := "known", desc := "(I)I" } : Jvm.MethodName) prog_1_method_8_code (3 : Nat) (Option.some Jvm.ClassFile.FieldType.int)) ∈ lw_all := lw_g (lw_at lw_m1 147 rfl) rfl
theorem q177 : (Jvm.Cond.instanceMethod ({ cls := "SelectorGc", name := "firstAbove", desc := "(II)I" } : Jvm.MethodName)) ∈ lw_all := lw_g (lw_at lw_m1 149 rfl) rfl
theorem q178 : (Jvm.Cond.selects "SelectorGc" ({ cls := "SelectorGc", name := "firstAbove", desc := "(II)I" } : Jvm.MethodName) ({ cls := "SelectorGc", name := "firstAbove", desc := "(II)I" } : Jvm.MethodName)) ∈ lw_all := lw_g (lw_at lw_m1 150 rfl) rfl
theorem q179 : (Jvm.Cond.code ({ cls := "SelectorGc", name := "firstAbove", desc := "(II)I" } : Jvm.MethodName) prog_1_method_9_code (5 : Nat) (Option.some Jvm.ClassFile.FieldType.int)) ∈ lw_all := lw_g (lw_at lw_m1 151 rfl) rfl
theorem q181 : (Jvm.Cond.instanceMethod ({ cls := "SelectorGc", name := "agree", desc := "(II)I" } : Jvm.MethodName)) ∈ lw_all := lw_g (lw_at lw_m1 153 rfl) rfl
theorem q182 : (Jvm.Cond.selects "SelectorGc" ({ cls := "SelectorGc", name := "agree", desc := "(II)I" } : Jvm.MethodName) ({ cls := "SelectorGc", name := "agree", desc := "(II)I" } : Jvm.MethodName)) ∈ lw_all := lw_g (lw_at lw_m1 154 rfl) rfl
theorem q183 : (Jvm.Cond.code ({ cls := "SelectorGc", name := "agree", desc := "(II)I" } : Jvm.MethodName) prog_1_method_10_code (8 : Nat) (Option.some Jvm.ClassFile.FieldType.int)) ∈ lw_all := lw_g (lw_at lw_m1 155 rfl) rfl
theorem q185 : (Jvm.Cond.instanceMethod ({ cls := "SelectorGc", name := "kind", desc := "(I)I" } : Jvm.MethodName)) ∈ lw_all := lw_g (lw_at lw_m1 157 rfl) rfl
theorem q186 : (Jvm.Cond.selects "SelectorGc" ({ cls := "SelectorGc", name := "kind", desc := "(I)I" } : Jvm.MethodName) ({ cls := "SelectorGc", name := "kind", desc := "(I)I" } : Jvm.MethodName)) ∈ lw_all := lw_g (lw_at lw_m1 158 rfl) rfl
theorem q187 : (Jvm.Cond.code ({ cls := "SelectorGc", name := "kind", desc := "(I)I" } : Jvm.MethodName) prog_1_method_11_code (2 : Nat) (Option.some Jvm.ClassFile.FieldType.int)) ∈ lw_all := lw_g (lw_at lw_m1 159 rfl) rfl
theorem q189 : (Jvm.Cond.instanceMethod ({ cls := "SelectorGc", name := "reset", desc := "()V" } : Jvm.MethodName)) ∈ lw_all := lw_g (lw_at lw_m1 161 rfl) rfl
theorem q190 : (Jvm.Cond.selects "SelectorGc" ({ cls := "SelectorGc", name := "reset", desc := "()V" } : Jvm.MethodName) ({ cls := "SelectorGc", name := "reset", desc := "()V" } : Jvm.MethodName)) ∈ lw_all := lw_g (lw_at lw_m1 162 rfl) rfl
theorem q191 : (Jvm.Cond.code ({ cls := "SelectorGc", name := "reset", desc := "()V" } : Jvm.MethodName) prog_1_method_12_code (2 : Nat) (Option.none : Option Jvm.ClassFile.FieldType)) ∈ lw_all := lw_g (lw_at lw_m1 163 rfl) rfl
theorem in_X0 : ∀ w ∈ wsX00, w ∈ lw_all := lw_in wsX00 [55, 57, 59, 61, 63, 65, 67, 69, 71, 73, 75, 77, 79, 81, 83, 85] (by decide +kernel) (by decide +kernel)
end
section
/-! SelectorGcModel -/
set_option maxRecDepth 100000
def RX1 : String := "SelectorGcModel"
def TX1 : u_T := fun k => match k with
  | 0 => ("SelectorGcModel", "kind", "[I", false)
  | 1 => ("SelectorGcModel", "a", "[I", false)
  | 2 => ("SelectorGcModel", "b", "[I", false)
  | 3 => ("SelectorGcModel", "has", "[Z", false)
  | 4 => ("SelectorGcModel", "value", "[I", false)
  | 5 => ("SelectorGcModel", "placeA", "I", false)
  | _ => ("SelectorGcModel", "placeB", "I", false)
def tyX1 : Nat → FieldType := fun k => match k with
  | 0 => .array .int
  | 1 => .array .int
  | 2 => .array .int
  | 3 => .array .boolean
  | 4 => .array .int
  | 5 => .int
  | _ => .int
abbrev wsX10 : List Cond := u_ws RX1 TX1 7
theorem nmX1 : ∀ a, a < 7 → ∀ b, b < 7 → a ≠ b → (TX1 a).2.1 ≠ (TX1 b).2.1 := by decide +kernel
theorem tyX1_ok : ∀ k, k < 7 → parseFieldDescriptor (TX1 k).2.2.1 = some (tyX1 k) := by decide +kernel
abbrev cX1_init : ByteArray := prog_3_method_1_code
def yX1_init : MethodName := ⟨RX1, "<init>", "()V"⟩
theorem dX1_init_0 : decode cX1_init 0 = .ok (.aload_n 0, 1) := by decide +kernel
theorem dX1_init_1 : decode cX1_init 1 = .ok (.invokespecial 1, 3) := by decide +kernel
theorem dX1_init_4 : decode cX1_init 4 = .ok (.aload_n 0, 1) := by decide +kernel
theorem dX1_init_5 : decode cX1_init 5 = .ok (.bipush 6, 2) := by decide +kernel
theorem dX1_init_7 : decode cX1_init 7 = .ok (.newarray .int, 2) := by decide +kernel
theorem dX1_init_9 : decode cX1_init 9 = .ok (.putfield 7, 3) := by decide +kernel
theorem dX1_init_12 : decode cX1_init 12 = .ok (.aload_n 0, 1) := by decide +kernel
theorem dX1_init_13 : decode cX1_init 13 = .ok (.bipush 6, 2) := by decide +kernel
theorem dX1_init_15 : decode cX1_init 15 = .ok (.newarray .int, 2) := by decide +kernel
theorem dX1_init_17 : decode cX1_init 17 = .ok (.putfield 13, 3) := by decide +kernel
theorem dX1_init_20 : decode cX1_init 20 = .ok (.aload_n 0, 1) := by decide +kernel
theorem dX1_init_21 : decode cX1_init 21 = .ok (.bipush 6, 2) := by decide +kernel
theorem dX1_init_23 : decode cX1_init 23 = .ok (.newarray .int, 2) := by decide +kernel
theorem dX1_init_25 : decode cX1_init 25 = .ok (.putfield 16, 3) := by decide +kernel
theorem dX1_init_28 : decode cX1_init 28 = .ok (.aload_n 0, 1) := by decide +kernel
theorem dX1_init_29 : decode cX1_init 29 = .ok (.bipush 126, 2) := by decide +kernel
theorem dX1_init_31 : decode cX1_init 31 = .ok (.newarray .boolean, 2) := by decide +kernel
theorem dX1_init_33 : decode cX1_init 33 = .ok (.putfield 19, 3) := by decide +kernel
theorem dX1_init_36 : decode cX1_init 36 = .ok (.aload_n 0, 1) := by decide +kernel
theorem dX1_init_37 : decode cX1_init 37 = .ok (.bipush 126, 2) := by decide +kernel
theorem dX1_init_39 : decode cX1_init 39 = .ok (.newarray .int, 2) := by decide +kernel
theorem dX1_init_41 : decode cX1_init 41 = .ok (.putfield 23, 3) := by decide +kernel
theorem dX1_init_44 : decode cX1_init 44 = .ok (.return_, 1) := by decide +kernel
abbrev cX1_define : ByteArray := prog_3_method_5_code
def yX1_define : MethodName := ⟨RX1, "define", "(IIII)Z"⟩
theorem dX1_define_0 : decode cX1_define 0 = .ok (.aload_n 0, 1) := by decide +kernel
theorem dX1_define_1 : decode cX1_define 1 = .ok (.iload_n 1, 1) := by decide +kernel
theorem dX1_define_2 : decode cX1_define 2 = .ok (.invokevirtual 26, 3) := by decide +kernel
theorem dX1_define_5 : decode cX1_define 5 = .ok (.ifCond .eq 13, 3) := by decide +kernel
theorem dX1_define_8 : decode cX1_define 8 = .ok (.iload_n 2, 1) := by decide +kernel
theorem dX1_define_9 : decode cX1_define 9 = .ok (.ifCond .lt 9, 3) := by decide +kernel
theorem dX1_define_12 : decode cX1_define 12 = .ok (.iload_n 2, 1) := by decide +kernel
theorem dX1_define_13 : decode cX1_define 13 = .ok (.bipush 8, 2) := by decide +kernel
theorem dX1_define_15 : decode cX1_define 15 = .ok (.if_icmp .le 5, 3) := by decide +kernel
theorem dX1_define_18 : decode cX1_define 18 = .ok (.iconst 0, 1) := by decide +kernel
theorem dX1_define_19 : decode cX1_define 19 = .ok (.ireturn, 1) := by decide +kernel
theorem dX1_define_20 : decode cX1_define 20 = .ok (.aload_n 0, 1) := by decide +kernel
theorem dX1_define_21 : decode cX1_define 21 = .ok (.iload_n 2, 1) := by decide +kernel
theorem dX1_define_22 : decode cX1_define 22 = .ok (.invokevirtual 30, 3) := by decide +kernel
theorem dX1_define_25 : decode cX1_define 25 = .ok (.ifCond .eq 11, 3) := by decide +kernel
theorem dX1_define_28 : decode cX1_define 28 = .ok (.aload_n 0, 1) := by decide +kernel
theorem dX1_define_29 : decode cX1_define 29 = .ok (.iload_n 3, 1) := by decide +kernel
theorem dX1_define_30 : decode cX1_define 30 = .ok (.invokevirtual 26, 3) := by decide +kernel
theorem dX1_define_33 : decode cX1_define 33 = .ok (.ifCond .eq 20, 3) := by decide +kernel
theorem dX1_define_36 : decode cX1_define 36 = .ok (.aload_n 0, 1) := by decide +kernel
theorem dX1_define_37 : decode cX1_define 37 = .ok (.iload_n 2, 1) := by decide +kernel
theorem dX1_define_38 : decode cX1_define 38 = .ok (.invokevirtual 33, 3) := by decide +kernel
theorem dX1_define_41 : decode cX1_define 41 = .ok (.ifCond .eq 14, 3) := by decide +kernel
theorem dX1_define_44 : decode cX1_define 44 = .ok (.aload_n 0, 1) := by decide +kernel
theorem dX1_define_45 : decode cX1_define 45 = .ok (.iload 4, 2) := by decide +kernel
theorem dX1_define_47 : decode cX1_define 47 = .ok (.invokevirtual 26, 3) := by decide +kernel
theorem dX1_define_50 : decode cX1_define 50 = .ok (.ifCond .ne 5, 3) := by decide +kernel
theorem dX1_define_53 : decode cX1_define 53 = .ok (.iconst 0, 1) := by decide +kernel
theorem dX1_define_54 : decode cX1_define 54 = .ok (.ireturn, 1) := by decide +kernel
theorem dX1_define_55 : decode cX1_define 55 = .ok (.aload_n 0, 1) := by decide +kernel
theorem dX1_define_56 : decode cX1_define 56 = .ok (.getfield 7, 3) := by decide +kernel
theorem dX1_define_59 : decode cX1_define 59 = .ok (.iload_n 1, 1) := by decide +kernel
theorem dX1_define_60 : decode cX1_define 60 = .ok (.iload_n 2, 1) := by decide +kernel
theorem dX1_define_61 : decode cX1_define 61 = .ok (.iastore, 1) := by decide +kernel
theorem dX1_define_62 : decode cX1_define 62 = .ok (.aload_n 0, 1) := by decide +kernel
theorem dX1_define_63 : decode cX1_define 63 = .ok (.getfield 13, 3) := by decide +kernel
theorem dX1_define_66 : decode cX1_define 66 = .ok (.iload_n 1, 1) := by decide +kernel
theorem dX1_define_67 : decode cX1_define 67 = .ok (.iload_n 3, 1) := by decide +kernel
theorem dX1_define_68 : decode cX1_define 68 = .ok (.iastore, 1) := by decide +kernel
theorem dX1_define_69 : decode cX1_define 69 = .ok (.aload_n 0, 1) := by decide +kernel
theorem dX1_define_70 : decode cX1_define 70 = .ok (.getfield 16, 3) := by decide +kernel
theorem dX1_define_73 : decode cX1_define 73 = .ok (.iload_n 1, 1) := by decide +kernel
theorem dX1_define_74 : decode cX1_define 74 = .ok (.iload 4, 2) := by decide +kernel
theorem dX1_define_76 : decode cX1_define 76 = .ok (.iastore, 1) := by decide +kernel
theorem dX1_define_77 : decode cX1_define 77 = .ok (.iconst 1, 1) := by decide +kernel
theorem dX1_define_78 : decode cX1_define 78 = .ok (.ireturn, 1) := by decide +kernel
abbrev cX1_isSequence : ByteArray := prog_3_method_2_code
def yX1_isSequence : MethodName := ⟨RX1, "isSequence", "(I)Z"⟩
theorem dX1_isSequence_0 : decode cX1_isSequence 0 = .ok (.iload_n 1, 1) := by decide +kernel
theorem dX1_isSequence_1 : decode cX1_isSequence 1 = .ok (.ifCond .lt 12, 3) := by decide +kernel
theorem dX1_isSequence_4 : decode cX1_isSequence 4 = .ok (.iload_n 1, 1) := by decide +kernel
theorem dX1_isSequence_5 : decode cX1_isSequence 5 = .ok (.iconst 5, 1) := by decide +kernel
theorem dX1_isSequence_6 : decode cX1_isSequence 6 = .ok (.if_icmp .gt 7, 3) := by decide +kernel
theorem dX1_isSequence_9 : decode cX1_isSequence 9 = .ok (.iconst 1, 1) := by decide +kernel
theorem dX1_isSequence_10 : decode cX1_isSequence 10 = .ok (.goto 4, 3) := by decide +kernel
theorem dX1_isSequence_13 : decode cX1_isSequence 13 = .ok (.iconst 0, 1) := by decide +kernel
theorem dX1_isSequence_14 : decode cX1_isSequence 14 = .ok (.ireturn, 1) := by decide +kernel
abbrev cX1_namesA : ByteArray := prog_3_method_3_code
def yX1_namesA : MethodName := ⟨RX1, "namesA", "(I)Z"⟩
theorem dX1_namesA_0 : decode cX1_namesA 0 = .ok (.iload_n 1, 1) := by decide +kernel
theorem dX1_namesA_1 : decode cX1_namesA 1 = .ok (.iconst 2, 1) := by decide +kernel
theorem dX1_namesA_2 : decode cX1_namesA 2 = .ok (.if_icmp .eq 31, 3) := by decide +kernel
theorem dX1_namesA_5 : decode cX1_namesA 5 = .ok (.iload_n 1, 1) := by decide +kernel
theorem dX1_namesA_6 : decode cX1_namesA 6 = .ok (.iconst 3, 1) := by decide +kernel
theorem dX1_namesA_7 : decode cX1_namesA 7 = .ok (.if_icmp .eq 26, 3) := by decide +kernel
theorem dX1_namesA_10 : decode cX1_namesA 10 = .ok (.iload_n 1, 1) := by decide +kernel
theorem dX1_namesA_11 : decode cX1_namesA 11 = .ok (.iconst 4, 1) := by decide +kernel
theorem dX1_namesA_12 : decode cX1_namesA 12 = .ok (.if_icmp .eq 21, 3) := by decide +kernel
theorem dX1_namesA_15 : decode cX1_namesA 15 = .ok (.iload_n 1, 1) := by decide +kernel
theorem dX1_namesA_16 : decode cX1_namesA 16 = .ok (.bipush 6, 2) := by decide +kernel
theorem dX1_namesA_18 : decode cX1_namesA 18 = .ok (.if_icmp .eq 15, 3) := by decide +kernel
theorem dX1_namesA_21 : decode cX1_namesA 21 = .ok (.iload_n 1, 1) := by decide +kernel
theorem dX1_namesA_22 : decode cX1_namesA 22 = .ok (.bipush 7, 2) := by decide +kernel
theorem dX1_namesA_24 : decode cX1_namesA 24 = .ok (.if_icmp .eq 9, 3) := by decide +kernel
theorem dX1_namesA_27 : decode cX1_namesA 27 = .ok (.iload_n 1, 1) := by decide +kernel
theorem dX1_namesA_28 : decode cX1_namesA 28 = .ok (.bipush 8, 2) := by decide +kernel
theorem dX1_namesA_30 : decode cX1_namesA 30 = .ok (.if_icmp .ne 7, 3) := by decide +kernel
theorem dX1_namesA_33 : decode cX1_namesA 33 = .ok (.iconst 1, 1) := by decide +kernel
theorem dX1_namesA_34 : decode cX1_namesA 34 = .ok (.goto 4, 3) := by decide +kernel
theorem dX1_namesA_37 : decode cX1_namesA 37 = .ok (.iconst 0, 1) := by decide +kernel
theorem dX1_namesA_38 : decode cX1_namesA 38 = .ok (.ireturn, 1) := by decide +kernel
abbrev cX1_namesB : ByteArray := prog_3_method_4_code
def yX1_namesB : MethodName := ⟨RX1, "namesB", "(I)Z"⟩
theorem dX1_namesB_0 : decode cX1_namesB 0 = .ok (.iload_n 1, 1) := by decide +kernel
theorem dX1_namesB_1 : decode cX1_namesB 1 = .ok (.iconst 1, 1) := by decide +kernel
theorem dX1_namesB_2 : decode cX1_namesB 2 = .ok (.if_icmp .eq 30, 3) := by decide +kernel
theorem dX1_namesB_5 : decode cX1_namesB 5 = .ok (.iload_n 1, 1) := by decide +kernel
theorem dX1_namesB_6 : decode cX1_namesB 6 = .ok (.iconst 3, 1) := by decide +kernel
theorem dX1_namesB_7 : decode cX1_namesB 7 = .ok (.if_icmp .eq 25, 3) := by decide +kernel
theorem dX1_namesB_10 : decode cX1_namesB 10 = .ok (.iload_n 1, 1) := by decide +kernel
theorem dX1_namesB_11 : decode cX1_namesB 11 = .ok (.iconst 4, 1) := by decide +kernel
theorem dX1_namesB_12 : decode cX1_namesB 12 = .ok (.if_icmp .eq 20, 3) := by decide +kernel
theorem dX1_namesB_15 : decode cX1_namesB 15 = .ok (.iload_n 1, 1) := by decide +kernel
theorem dX1_namesB_16 : decode cX1_namesB 16 = .ok (.iconst 5, 1) := by decide +kernel
theorem dX1_namesB_17 : decode cX1_namesB 17 = .ok (.if_icmp .eq 15, 3) := by decide +kernel
theorem dX1_namesB_20 : decode cX1_namesB 20 = .ok (.iload_n 1, 1) := by decide +kernel
theorem dX1_namesB_21 : decode cX1_namesB 21 = .ok (.bipush 7, 2) := by decide +kernel
theorem dX1_namesB_23 : decode cX1_namesB 23 = .ok (.if_icmp .eq 9, 3) := by decide +kernel
theorem dX1_namesB_26 : decode cX1_namesB 26 = .ok (.iload_n 1, 1) := by decide +kernel
theorem dX1_namesB_27 : decode cX1_namesB 27 = .ok (.bipush 8, 2) := by decide +kernel
theorem dX1_namesB_29 : decode cX1_namesB 29 = .ok (.if_icmp .ne 7, 3) := by decide +kernel
theorem dX1_namesB_32 : decode cX1_namesB 32 = .ok (.iconst 1, 1) := by decide +kernel
theorem dX1_namesB_33 : decode cX1_namesB 33 = .ok (.goto 4, 3) := by decide +kernel
theorem dX1_namesB_36 : decode cX1_namesB 36 = .ok (.iconst 0, 1) := by decide +kernel
theorem dX1_namesB_37 : decode cX1_namesB 37 = .ok (.ireturn, 1) := by decide +kernel
abbrev cX1_ready : ByteArray := prog_3_method_14_code
def yX1_ready : MethodName := ⟨RX1, "ready", "(II)Z"⟩
theorem dX1_ready_0 : decode cX1_ready 0 = .ok (.aload_n 0, 1) := by decide +kernel
theorem dX1_ready_1 : decode cX1_ready 1 = .ok (.iload_n 1, 1) := by decide +kernel
theorem dX1_ready_2 : decode cX1_ready 2 = .ok (.iload_n 2, 1) := by decide +kernel
theorem dX1_ready_3 : decode cX1_ready 3 = .ok (.invokevirtual 65, 3) := by decide +kernel
theorem dX1_ready_6 : decode cX1_ready 6 = .ok (.ifCond .ne 5, 3) := by decide +kernel
theorem dX1_ready_9 : decode cX1_ready 9 = .ok (.iconst 0, 1) := by decide +kernel
theorem dX1_ready_10 : decode cX1_ready 10 = .ok (.ireturn, 1) := by decide +kernel
theorem dX1_ready_11 : decode cX1_ready 11 = .ok (.aload_n 0, 1) := by decide +kernel
theorem dX1_ready_12 : decode cX1_ready 12 = .ok (.invokevirtual 68, 3) := by decide +kernel
theorem dX1_ready_15 : decode cX1_ready 15 = .ok (.aload_n 0, 1) := by decide +kernel
theorem dX1_ready_16 : decode cX1_ready 16 = .ok (.iload_n 1, 1) := by decide +kernel
theorem dX1_ready_17 : decode cX1_ready 17 = .ok (.iload_n 2, 1) := by decide +kernel
theorem dX1_ready_18 : decode cX1_ready 18 = .ok (.invokevirtual 47, 3) := by decide +kernel
theorem dX1_ready_21 : decode cX1_ready 21 = .ok (.ireturn, 1) := by decide +kernel
abbrev cX1_asked : ByteArray := prog_3_method_13_code
def yX1_asked : MethodName := ⟨RX1, "asked", "(II)Z"⟩
theorem dX1_asked_0 : decode cX1_asked 0 = .ok (.aload_n 0, 1) := by decide +kernel
theorem dX1_asked_1 : decode cX1_asked 1 = .ok (.iload_n 1, 1) := by decide +kernel
theorem dX1_asked_2 : decode cX1_asked 2 = .ok (.invokevirtual 26, 3) := by decide +kernel
theorem dX1_asked_5 : decode cX1_asked 5 = .ok (.ifCond .eq 17, 3) := by decide +kernel
theorem dX1_asked_8 : decode cX1_asked 8 = .ok (.iload_n 2, 1) := by decide +kernel
theorem dX1_asked_9 : decode cX1_asked 9 = .ok (.ifCond .lt 13, 3) := by decide +kernel
theorem dX1_asked_12 : decode cX1_asked 12 = .ok (.iload_n 2, 1) := by decide +kernel
theorem dX1_asked_13 : decode cX1_asked 13 = .ok (.bipush 15, 2) := by decide +kernel
theorem dX1_asked_15 : decode cX1_asked 15 = .ok (.if_icmp .gt 7, 3) := by decide +kernel
theorem dX1_asked_18 : decode cX1_asked 18 = .ok (.iconst 1, 1) := by decide +kernel
theorem dX1_asked_19 : decode cX1_asked 19 = .ok (.goto 4, 3) := by decide +kernel
theorem dX1_asked_22 : decode cX1_asked 22 = .ok (.iconst 0, 1) := by decide +kernel
theorem dX1_asked_23 : decode cX1_asked 23 = .ok (.ireturn, 1) := by decide +kernel
abbrev cX1_fill : ByteArray := prog_3_method_12_code
def yX1_fill : MethodName := ⟨RX1, "fill", "()V"⟩
theorem dX1_fill_0 : decode cX1_fill 0 = .ok (.iconst 0, 1) := by decide +kernel
theorem dX1_fill_1 : decode cX1_fill 1 = .ok (.istore_n 1, 1) := by decide +kernel
theorem dX1_fill_2 : decode cX1_fill 2 = .ok (.iload_n 1, 1) := by decide +kernel
theorem dX1_fill_3 : decode cX1_fill 3 = .ok (.bipush 126, 2) := by decide +kernel
theorem dX1_fill_5 : decode cX1_fill 5 = .ok (.if_icmp .ge 16, 3) := by decide +kernel
theorem dX1_fill_8 : decode cX1_fill 8 = .ok (.aload_n 0, 1) := by decide +kernel
theorem dX1_fill_9 : decode cX1_fill 9 = .ok (.getfield 19, 3) := by decide +kernel
theorem dX1_fill_12 : decode cX1_fill 12 = .ok (.iload_n 1, 1) := by decide +kernel
theorem dX1_fill_13 : decode cX1_fill 13 = .ok (.iconst 0, 1) := by decide +kernel
theorem dX1_fill_14 : decode cX1_fill 14 = .ok (.bastore, 1) := by decide +kernel
theorem dX1_fill_15 : decode cX1_fill 15 = .ok (.iinc 1 1, 3) := by decide +kernel
theorem dX1_fill_18 : decode cX1_fill 18 = .ok (.goto (-16), 3) := by decide +kernel
theorem dX1_fill_21 : decode cX1_fill 21 = .ok (.iconst 1, 1) := by decide +kernel
theorem dX1_fill_22 : decode cX1_fill 22 = .ok (.istore_n 1, 1) := by decide +kernel
theorem dX1_fill_23 : decode cX1_fill 23 = .ok (.iconst 0, 1) := by decide +kernel
theorem dX1_fill_24 : decode cX1_fill 24 = .ok (.istore_n 2, 1) := by decide +kernel
theorem dX1_fill_25 : decode cX1_fill 25 = .ok (.iload_n 2, 1) := by decide +kernel
theorem dX1_fill_26 : decode cX1_fill 26 = .ok (.bipush 127, 2) := by decide +kernel
theorem dX1_fill_28 : decode cX1_fill 28 = .ok (.if_icmp .ge 18, 3) := by decide +kernel
theorem dX1_fill_31 : decode cX1_fill 31 = .ok (.iload_n 1, 1) := by decide +kernel
theorem dX1_fill_32 : decode cX1_fill 32 = .ok (.ifCond .eq 14, 3) := by decide +kernel
theorem dX1_fill_35 : decode cX1_fill 35 = .ok (.aload_n 0, 1) := by decide +kernel
theorem dX1_fill_36 : decode cX1_fill 36 = .ok (.invokevirtual 61, 3) := by decide +kernel
theorem dX1_fill_39 : decode cX1_fill 39 = .ok (.istore_n 1, 1) := by decide +kernel
theorem dX1_fill_40 : decode cX1_fill 40 = .ok (.iinc 2 1, 3) := by decide +kernel
theorem dX1_fill_43 : decode cX1_fill 43 = .ok (.goto (-18), 3) := by decide +kernel
theorem dX1_fill_46 : decode cX1_fill 46 = .ok (.return_, 1) := by decide +kernel
abbrev cX1_sweep : ByteArray := prog_3_method_11_code
def yX1_sweep : MethodName := ⟨RX1, "sweep", "()Z"⟩
theorem dX1_sweep_0 : decode cX1_sweep 0 = .ok (.iconst 0, 1) := by decide +kernel
theorem dX1_sweep_1 : decode cX1_sweep 1 = .ok (.istore_n 1, 1) := by decide +kernel
theorem dX1_sweep_2 : decode cX1_sweep 2 = .ok (.iconst 0, 1) := by decide +kernel
theorem dX1_sweep_3 : decode cX1_sweep 3 = .ok (.istore_n 2, 1) := by decide +kernel
theorem dX1_sweep_4 : decode cX1_sweep 4 = .ok (.iload_n 2, 1) := by decide +kernel
theorem dX1_sweep_5 : decode cX1_sweep 5 = .ok (.bipush 20, 2) := by decide +kernel
theorem dX1_sweep_7 : decode cX1_sweep 7 = .ok (.if_icmp .gt 77, 3) := by decide +kernel
theorem dX1_sweep_10 : decode cX1_sweep 10 = .ok (.iconst 0, 1) := by decide +kernel
theorem dX1_sweep_11 : decode cX1_sweep 11 = .ok (.istore_n 3, 1) := by decide +kernel
theorem dX1_sweep_12 : decode cX1_sweep 12 = .ok (.iload_n 3, 1) := by decide +kernel
theorem dX1_sweep_13 : decode cX1_sweep 13 = .ok (.bipush 6, 2) := by decide +kernel
theorem dX1_sweep_15 : decode cX1_sweep 15 = .ok (.if_icmp .ge 63, 3) := by decide +kernel
theorem dX1_sweep_18 : decode cX1_sweep 18 = .ok (.aload_n 0, 1) := by decide +kernel
theorem dX1_sweep_19 : decode cX1_sweep 19 = .ok (.getfield 19, 3) := by decide +kernel
theorem dX1_sweep_22 : decode cX1_sweep 22 = .ok (.bipush 21, 2) := by decide +kernel
theorem dX1_sweep_24 : decode cX1_sweep 24 = .ok (.iload_n 3, 1) := by decide +kernel
theorem dX1_sweep_25 : decode cX1_sweep 25 = .ok (.imul, 1) := by decide +kernel
theorem dX1_sweep_26 : decode cX1_sweep 26 = .ok (.iload_n 2, 1) := by decide +kernel
theorem dX1_sweep_27 : decode cX1_sweep 27 = .ok (.iadd, 1) := by decide +kernel
theorem dX1_sweep_28 : decode cX1_sweep 28 = .ok (.baload, 1) := by decide +kernel
theorem dX1_sweep_29 : decode cX1_sweep 29 = .ok (.ifCond .ne 43, 3) := by decide +kernel
theorem dX1_sweep_32 : decode cX1_sweep 32 = .ok (.aload_n 0, 1) := by decide +kernel
theorem dX1_sweep_33 : decode cX1_sweep 33 = .ok (.iload_n 3, 1) := by decide +kernel
theorem dX1_sweep_34 : decode cX1_sweep 34 = .ok (.iload_n 2, 1) := by decide +kernel
theorem dX1_sweep_35 : decode cX1_sweep 35 = .ok (.invokevirtual 55, 3) := by decide +kernel
theorem dX1_sweep_38 : decode cX1_sweep 38 = .ok (.ifCond .eq 34, 3) := by decide +kernel
theorem dX1_sweep_41 : decode cX1_sweep 41 = .ok (.aload_n 0, 1) := by decide +kernel
theorem dX1_sweep_42 : decode cX1_sweep 42 = .ok (.getfield 23, 3) := by decide +kernel
theorem dX1_sweep_45 : decode cX1_sweep 45 = .ok (.bipush 21, 2) := by decide +kernel
theorem dX1_sweep_47 : decode cX1_sweep 47 = .ok (.iload_n 3, 1) := by decide +kernel
theorem dX1_sweep_48 : decode cX1_sweep 48 = .ok (.imul, 1) := by decide +kernel
theorem dX1_sweep_49 : decode cX1_sweep 49 = .ok (.iload_n 2, 1) := by decide +kernel
theorem dX1_sweep_50 : decode cX1_sweep 50 = .ok (.iadd, 1) := by decide +kernel
theorem dX1_sweep_51 : decode cX1_sweep 51 = .ok (.aload_n 0, 1) := by decide +kernel
theorem dX1_sweep_52 : decode cX1_sweep 52 = .ok (.iload_n 3, 1) := by decide +kernel
theorem dX1_sweep_53 : decode cX1_sweep 53 = .ok (.iload_n 2, 1) := by decide +kernel
theorem dX1_sweep_54 : decode cX1_sweep 54 = .ok (.invokevirtual 58, 3) := by decide +kernel
theorem dX1_sweep_57 : decode cX1_sweep 57 = .ok (.iastore, 1) := by decide +kernel
theorem dX1_sweep_58 : decode cX1_sweep 58 = .ok (.aload_n 0, 1) := by decide +kernel
theorem dX1_sweep_59 : decode cX1_sweep 59 = .ok (.getfield 19, 3) := by decide +kernel
theorem dX1_sweep_62 : decode cX1_sweep 62 = .ok (.bipush 21, 2) := by decide +kernel
theorem dX1_sweep_64 : decode cX1_sweep 64 = .ok (.iload_n 3, 1) := by decide +kernel
theorem dX1_sweep_65 : decode cX1_sweep 65 = .ok (.imul, 1) := by decide +kernel
theorem dX1_sweep_66 : decode cX1_sweep 66 = .ok (.iload_n 2, 1) := by decide +kernel
theorem dX1_sweep_67 : decode cX1_sweep 67 = .ok (.iadd, 1) := by decide +kernel
theorem dX1_sweep_68 : decode cX1_sweep 68 = .ok (.iconst 1, 1) := by decide +kernel
theorem dX1_sweep_69 : decode cX1_sweep 69 = .ok (.bastore, 1) := by decide +kernel
theorem dX1_sweep_70 : decode cX1_sweep 70 = .ok (.iconst 1, 1) := by decide +kernel
theorem dX1_sweep_71 : decode cX1_sweep 71 = .ok (.istore_n 1, 1) := by decide +kernel
theorem dX1_sweep_72 : decode cX1_sweep 72 = .ok (.iinc 3 1, 3) := by decide +kernel
theorem dX1_sweep_75 : decode cX1_sweep 75 = .ok (.goto (-63), 3) := by decide +kernel
theorem dX1_sweep_78 : decode cX1_sweep 78 = .ok (.iinc 2 1, 3) := by decide +kernel
theorem dX1_sweep_81 : decode cX1_sweep 81 = .ok (.goto (-77), 3) := by decide +kernel
theorem dX1_sweep_84 : decode cX1_sweep 84 = .ok (.iload_n 1, 1) := by decide +kernel
theorem dX1_sweep_85 : decode cX1_sweep 85 = .ok (.ireturn, 1) := by decide +kernel
abbrev cX1_needsMet : ByteArray := prog_3_method_9_code
def yX1_needsMet : MethodName := ⟨RX1, "needsMet", "(II)Z"⟩
theorem dX1_needsMet_0 : decode cX1_needsMet 0 = .ok (.iload_n 2, 1) := by decide +kernel
theorem dX1_needsMet_1 : decode cX1_needsMet 1 = .ok (.ifCond .le 16, 3) := by decide +kernel
theorem dX1_needsMet_4 : decode cX1_needsMet 4 = .ok (.aload_n 0, 1) := by decide +kernel
theorem dX1_needsMet_5 : decode cX1_needsMet 5 = .ok (.iload_n 1, 1) := by decide +kernel
theorem dX1_needsMet_6 : decode cX1_needsMet 6 = .ok (.iload_n 2, 1) := by decide +kernel
theorem dX1_needsMet_7 : decode cX1_needsMet 7 = .ok (.iconst 1, 1) := by decide +kernel
theorem dX1_needsMet_8 : decode cX1_needsMet 8 = .ok (.isub, 1) := by decide +kernel
theorem dX1_needsMet_9 : decode cX1_needsMet 9 = .ok (.invokevirtual 47, 3) := by decide +kernel
theorem dX1_needsMet_12 : decode cX1_needsMet 12 = .ok (.ifCond .ne 5, 3) := by decide +kernel
theorem dX1_needsMet_15 : decode cX1_needsMet 15 = .ok (.iconst 0, 1) := by decide +kernel
theorem dX1_needsMet_16 : decode cX1_needsMet 16 = .ok (.ireturn, 1) := by decide +kernel
theorem dX1_needsMet_17 : decode cX1_needsMet 17 = .ok (.aload_n 0, 1) := by decide +kernel
theorem dX1_needsMet_18 : decode cX1_needsMet 18 = .ok (.getfield 7, 3) := by decide +kernel
theorem dX1_needsMet_21 : decode cX1_needsMet 21 = .ok (.iload_n 1, 1) := by decide +kernel
theorem dX1_needsMet_22 : decode cX1_needsMet 22 = .ok (.iaload, 1) := by decide +kernel
theorem dX1_needsMet_23 : decode cX1_needsMet 23 = .ok (.ifCond .ne 5, 3) := by decide +kernel
theorem dX1_needsMet_26 : decode cX1_needsMet 26 = .ok (.iconst 1, 1) := by decide +kernel
theorem dX1_needsMet_27 : decode cX1_needsMet 27 = .ok (.ireturn, 1) := by decide +kernel
theorem dX1_needsMet_28 : decode cX1_needsMet 28 = .ok (.aload_n 0, 1) := by decide +kernel
theorem dX1_needsMet_29 : decode cX1_needsMet 29 = .ok (.getfield 7, 3) := by decide +kernel
theorem dX1_needsMet_32 : decode cX1_needsMet 32 = .ok (.iload_n 1, 1) := by decide +kernel
theorem dX1_needsMet_33 : decode cX1_needsMet 33 = .ok (.iaload, 1) := by decide +kernel
theorem dX1_needsMet_34 : decode cX1_needsMet 34 = .ok (.iconst 1, 1) := by decide +kernel
theorem dX1_needsMet_35 : decode cX1_needsMet 35 = .ok (.if_icmp .ne 29, 3) := by decide +kernel
theorem dX1_needsMet_38 : decode cX1_needsMet 38 = .ok (.iload_n 2, 1) := by decide +kernel
theorem dX1_needsMet_39 : decode cX1_needsMet 39 = .ok (.ifCond .eq 19, 3) := by decide +kernel
theorem dX1_needsMet_42 : decode cX1_needsMet 42 = .ok (.aload_n 0, 1) := by decide +kernel
theorem dX1_needsMet_43 : decode cX1_needsMet 43 = .ok (.aload_n 0, 1) := by decide +kernel
theorem dX1_needsMet_44 : decode cX1_needsMet 44 = .ok (.getfield 16, 3) := by decide +kernel
theorem dX1_needsMet_47 : decode cX1_needsMet 47 = .ok (.iload_n 1, 1) := by decide +kernel
theorem dX1_needsMet_48 : decode cX1_needsMet 48 = .ok (.iaload, 1) := by decide +kernel
theorem dX1_needsMet_49 : decode cX1_needsMet 49 = .ok (.iload_n 2, 1) := by decide +kernel
theorem dX1_needsMet_50 : decode cX1_needsMet 50 = .ok (.iconst 1, 1) := by decide +kernel
theorem dX1_needsMet_51 : decode cX1_needsMet 51 = .ok (.isub, 1) := by decide +kernel
theorem dX1_needsMet_52 : decode cX1_needsMet 52 = .ok (.invokevirtual 47, 3) := by decide +kernel
theorem dX1_needsMet_55 : decode cX1_needsMet 55 = .ok (.ifCond .eq 7, 3) := by decide +kernel
theorem dX1_needsMet_58 : decode cX1_needsMet 58 = .ok (.iconst 1, 1) := by decide +kernel
theorem dX1_needsMet_59 : decode cX1_needsMet 59 = .ok (.goto 4, 3) := by decide +kernel
theorem dX1_needsMet_62 : decode cX1_needsMet 62 = .ok (.iconst 0, 1) := by decide +kernel
theorem dX1_needsMet_63 : decode cX1_needsMet 63 = .ok (.ireturn, 1) := by decide +kernel
theorem dX1_needsMet_64 : decode cX1_needsMet 64 = .ok (.aload_n 0, 1) := by decide +kernel
theorem dX1_needsMet_65 : decode cX1_needsMet 65 = .ok (.getfield 7, 3) := by decide +kernel
theorem dX1_needsMet_68 : decode cX1_needsMet 68 = .ok (.iload_n 1, 1) := by decide +kernel
theorem dX1_needsMet_69 : decode cX1_needsMet 69 = .ok (.iaload, 1) := by decide +kernel
theorem dX1_needsMet_70 : decode cX1_needsMet 70 = .ok (.iconst 2, 1) := by decide +kernel
theorem dX1_needsMet_71 : decode cX1_needsMet 71 = .ok (.if_icmp .ne 17, 3) := by decide +kernel
theorem dX1_needsMet_74 : decode cX1_needsMet 74 = .ok (.aload_n 0, 1) := by decide +kernel
theorem dX1_needsMet_75 : decode cX1_needsMet 75 = .ok (.aload_n 0, 1) := by decide +kernel
theorem dX1_needsMet_76 : decode cX1_needsMet 76 = .ok (.getfield 13, 3) := by decide +kernel
theorem dX1_needsMet_79 : decode cX1_needsMet 79 = .ok (.iload_n 1, 1) := by decide +kernel
theorem dX1_needsMet_80 : decode cX1_needsMet 80 = .ok (.iaload, 1) := by decide +kernel
theorem dX1_needsMet_81 : decode cX1_needsMet 81 = .ok (.iload_n 2, 1) := by decide +kernel
theorem dX1_needsMet_82 : decode cX1_needsMet 82 = .ok (.iconst 1, 1) := by decide +kernel
theorem dX1_needsMet_83 : decode cX1_needsMet 83 = .ok (.iadd, 1) := by decide +kernel
theorem dX1_needsMet_84 : decode cX1_needsMet 84 = .ok (.invokevirtual 47, 3) := by decide +kernel
theorem dX1_needsMet_87 : decode cX1_needsMet 87 = .ok (.ireturn, 1) := by decide +kernel
theorem dX1_needsMet_88 : decode cX1_needsMet 88 = .ok (.aload_n 0, 1) := by decide +kernel
theorem dX1_needsMet_89 : decode cX1_needsMet 89 = .ok (.getfield 7, 3) := by decide +kernel
theorem dX1_needsMet_92 : decode cX1_needsMet 92 = .ok (.iload_n 1, 1) := by decide +kernel
theorem dX1_needsMet_93 : decode cX1_needsMet 93 = .ok (.iaload, 1) := by decide +kernel
theorem dX1_needsMet_94 : decode cX1_needsMet 94 = .ok (.iconst 3, 1) := by decide +kernel
theorem dX1_needsMet_95 : decode cX1_needsMet 95 = .ok (.if_icmp .eq 13, 3) := by decide +kernel
theorem dX1_needsMet_98 : decode cX1_needsMet 98 = .ok (.aload_n 0, 1) := by decide +kernel
theorem dX1_needsMet_99 : decode cX1_needsMet 99 = .ok (.getfield 7, 3) := by decide +kernel
theorem dX1_needsMet_102 : decode cX1_needsMet 102 = .ok (.iload_n 1, 1) := by decide +kernel
theorem dX1_needsMet_103 : decode cX1_needsMet 103 = .ok (.iaload, 1) := by decide +kernel
theorem dX1_needsMet_104 : decode cX1_needsMet 104 = .ok (.iconst 4, 1) := by decide +kernel
theorem dX1_needsMet_105 : decode cX1_needsMet 105 = .ok (.if_icmp .ne 37, 3) := by decide +kernel
theorem dX1_needsMet_108 : decode cX1_needsMet 108 = .ok (.aload_n 0, 1) := by decide +kernel
theorem dX1_needsMet_109 : decode cX1_needsMet 109 = .ok (.aload_n 0, 1) := by decide +kernel
theorem dX1_needsMet_110 : decode cX1_needsMet 110 = .ok (.getfield 13, 3) := by decide +kernel
theorem dX1_needsMet_113 : decode cX1_needsMet 113 = .ok (.iload_n 1, 1) := by decide +kernel
theorem dX1_needsMet_114 : decode cX1_needsMet 114 = .ok (.iaload, 1) := by decide +kernel
theorem dX1_needsMet_115 : decode cX1_needsMet 115 = .ok (.iload_n 2, 1) := by decide +kernel
theorem dX1_needsMet_116 : decode cX1_needsMet 116 = .ok (.invokevirtual 47, 3) := by decide +kernel
theorem dX1_needsMet_119 : decode cX1_needsMet 119 = .ok (.ifCond .eq 21, 3) := by decide +kernel
theorem dX1_needsMet_122 : decode cX1_needsMet 122 = .ok (.aload_n 0, 1) := by decide +kernel
theorem dX1_needsMet_123 : decode cX1_needsMet 123 = .ok (.aload_n 0, 1) := by decide +kernel
theorem dX1_needsMet_124 : decode cX1_needsMet 124 = .ok (.getfield 16, 3) := by decide +kernel
theorem dX1_needsMet_127 : decode cX1_needsMet 127 = .ok (.iload_n 1, 1) := by decide +kernel
theorem dX1_needsMet_128 : decode cX1_needsMet 128 = .ok (.iaload, 1) := by decide +kernel
theorem dX1_needsMet_129 : decode cX1_needsMet 129 = .ok (.iload_n 2, 1) := by decide +kernel
theorem dX1_needsMet_130 : decode cX1_needsMet 130 = .ok (.invokevirtual 47, 3) := by decide +kernel
theorem dX1_needsMet_133 : decode cX1_needsMet 133 = .ok (.ifCond .eq 7, 3) := by decide +kernel
theorem dX1_needsMet_136 : decode cX1_needsMet 136 = .ok (.iconst 1, 1) := by decide +kernel
theorem dX1_needsMet_137 : decode cX1_needsMet 137 = .ok (.goto 4, 3) := by decide +kernel
theorem dX1_needsMet_140 : decode cX1_needsMet 140 = .ok (.iconst 0, 1) := by decide +kernel
theorem dX1_needsMet_141 : decode cX1_needsMet 141 = .ok (.ireturn, 1) := by decide +kernel
theorem dX1_needsMet_142 : decode cX1_needsMet 142 = .ok (.aload_n 0, 1) := by decide +kernel
theorem dX1_needsMet_143 : decode cX1_needsMet 143 = .ok (.getfield 7, 3) := by decide +kernel
theorem dX1_needsMet_146 : decode cX1_needsMet 146 = .ok (.iload_n 1, 1) := by decide +kernel
theorem dX1_needsMet_147 : decode cX1_needsMet 147 = .ok (.iaload, 1) := by decide +kernel
theorem dX1_needsMet_148 : decode cX1_needsMet 148 = .ok (.iconst 5, 1) := by decide +kernel
theorem dX1_needsMet_149 : decode cX1_needsMet 149 = .ok (.if_icmp .ne 15, 3) := by decide +kernel
theorem dX1_needsMet_152 : decode cX1_needsMet 152 = .ok (.aload_n 0, 1) := by decide +kernel
theorem dX1_needsMet_153 : decode cX1_needsMet 153 = .ok (.aload_n 0, 1) := by decide +kernel
theorem dX1_needsMet_154 : decode cX1_needsMet 154 = .ok (.getfield 16, 3) := by decide +kernel
theorem dX1_needsMet_157 : decode cX1_needsMet 157 = .ok (.iload_n 1, 1) := by decide +kernel
theorem dX1_needsMet_158 : decode cX1_needsMet 158 = .ok (.iaload, 1) := by decide +kernel
theorem dX1_needsMet_159 : decode cX1_needsMet 159 = .ok (.iload_n 2, 1) := by decide +kernel
theorem dX1_needsMet_160 : decode cX1_needsMet 160 = .ok (.invokevirtual 47, 3) := by decide +kernel
theorem dX1_needsMet_163 : decode cX1_needsMet 163 = .ok (.ireturn, 1) := by decide +kernel
theorem dX1_needsMet_164 : decode cX1_needsMet 164 = .ok (.aload_n 0, 1) := by decide +kernel
theorem dX1_needsMet_165 : decode cX1_needsMet 165 = .ok (.getfield 7, 3) := by decide +kernel
theorem dX1_needsMet_168 : decode cX1_needsMet 168 = .ok (.iload_n 1, 1) := by decide +kernel
theorem dX1_needsMet_169 : decode cX1_needsMet 169 = .ok (.iaload, 1) := by decide +kernel
theorem dX1_needsMet_170 : decode cX1_needsMet 170 = .ok (.bipush 6, 2) := by decide +kernel
theorem dX1_needsMet_172 : decode cX1_needsMet 172 = .ok (.if_icmp .ne 15, 3) := by decide +kernel
theorem dX1_needsMet_175 : decode cX1_needsMet 175 = .ok (.aload_n 0, 1) := by decide +kernel
theorem dX1_needsMet_176 : decode cX1_needsMet 176 = .ok (.aload_n 0, 1) := by decide +kernel
theorem dX1_needsMet_177 : decode cX1_needsMet 177 = .ok (.getfield 13, 3) := by decide +kernel
theorem dX1_needsMet_180 : decode cX1_needsMet 180 = .ok (.iload_n 1, 1) := by decide +kernel
theorem dX1_needsMet_181 : decode cX1_needsMet 181 = .ok (.iaload, 1) := by decide +kernel
theorem dX1_needsMet_182 : decode cX1_needsMet 182 = .ok (.iload_n 2, 1) := by decide +kernel
theorem dX1_needsMet_183 : decode cX1_needsMet 183 = .ok (.invokevirtual 47, 3) := by decide +kernel
theorem dX1_needsMet_186 : decode cX1_needsMet 186 = .ok (.ireturn, 1) := by decide +kernel
theorem dX1_needsMet_187 : decode cX1_needsMet 187 = .ok (.aload_n 0, 1) := by decide +kernel
theorem dX1_needsMet_188 : decode cX1_needsMet 188 = .ok (.getfield 7, 3) := by decide +kernel
theorem dX1_needsMet_191 : decode cX1_needsMet 191 = .ok (.iload_n 1, 1) := by decide +kernel
theorem dX1_needsMet_192 : decode cX1_needsMet 192 = .ok (.iaload, 1) := by decide +kernel
theorem dX1_needsMet_193 : decode cX1_needsMet 193 = .ok (.bipush 7, 2) := by decide +kernel
theorem dX1_needsMet_195 : decode cX1_needsMet 195 = .ok (.if_icmp .ne 39, 3) := by decide +kernel
theorem dX1_needsMet_198 : decode cX1_needsMet 198 = .ok (.iload_n 2, 1) := by decide +kernel
theorem dX1_needsMet_199 : decode cX1_needsMet 199 = .ok (.iconst 2, 1) := by decide +kernel
theorem dX1_needsMet_200 : decode cX1_needsMet 200 = .ok (.irem, 1) := by decide +kernel
theorem dX1_needsMet_201 : decode cX1_needsMet 201 = .ok (.ifCond .ne 19, 3) := by decide +kernel
theorem dX1_needsMet_204 : decode cX1_needsMet 204 = .ok (.aload_n 0, 1) := by decide +kernel
theorem dX1_needsMet_205 : decode cX1_needsMet 205 = .ok (.aload_n 0, 1) := by decide +kernel
theorem dX1_needsMet_206 : decode cX1_needsMet 206 = .ok (.getfield 13, 3) := by decide +kernel
theorem dX1_needsMet_209 : decode cX1_needsMet 209 = .ok (.iload_n 1, 1) := by decide +kernel
theorem dX1_needsMet_210 : decode cX1_needsMet 210 = .ok (.iaload, 1) := by decide +kernel
theorem dX1_needsMet_211 : decode cX1_needsMet 211 = .ok (.iload_n 2, 1) := by decide +kernel
theorem dX1_needsMet_212 : decode cX1_needsMet 212 = .ok (.iconst 2, 1) := by decide +kernel
theorem dX1_needsMet_213 : decode cX1_needsMet 213 = .ok (.idiv, 1) := by decide +kernel
theorem dX1_needsMet_214 : decode cX1_needsMet 214 = .ok (.invokevirtual 47, 3) := by decide +kernel
theorem dX1_needsMet_217 : decode cX1_needsMet 217 = .ok (.goto 16, 3) := by decide +kernel
theorem dX1_needsMet_220 : decode cX1_needsMet 220 = .ok (.aload_n 0, 1) := by decide +kernel
theorem dX1_needsMet_221 : decode cX1_needsMet 221 = .ok (.aload_n 0, 1) := by decide +kernel
theorem dX1_needsMet_222 : decode cX1_needsMet 222 = .ok (.getfield 16, 3) := by decide +kernel
theorem dX1_needsMet_225 : decode cX1_needsMet 225 = .ok (.iload_n 1, 1) := by decide +kernel
theorem dX1_needsMet_226 : decode cX1_needsMet 226 = .ok (.iaload, 1) := by decide +kernel
theorem dX1_needsMet_227 : decode cX1_needsMet 227 = .ok (.iload_n 2, 1) := by decide +kernel
theorem dX1_needsMet_228 : decode cX1_needsMet 228 = .ok (.iconst 2, 1) := by decide +kernel
theorem dX1_needsMet_229 : decode cX1_needsMet 229 = .ok (.idiv, 1) := by decide +kernel
theorem dX1_needsMet_230 : decode cX1_needsMet 230 = .ok (.invokevirtual 47, 3) := by decide +kernel
theorem dX1_needsMet_233 : decode cX1_needsMet 233 = .ok (.ireturn, 1) := by decide +kernel
theorem dX1_needsMet_234 : decode cX1_needsMet 234 = .ok (.aload_n 0, 1) := by decide +kernel
theorem dX1_needsMet_235 : decode cX1_needsMet 235 = .ok (.iload_n 1, 1) := by decide +kernel
theorem dX1_needsMet_236 : decode cX1_needsMet 236 = .ok (.iload_n 2, 1) := by decide +kernel
theorem dX1_needsMet_237 : decode cX1_needsMet 237 = .ok (.invokevirtual 51, 3) := by decide +kernel
theorem dX1_needsMet_240 : decode cX1_needsMet 240 = .ok (.aload_n 0, 1) := by decide +kernel
theorem dX1_needsMet_241 : decode cX1_needsMet 241 = .ok (.aload_n 0, 1) := by decide +kernel
theorem dX1_needsMet_242 : decode cX1_needsMet 242 = .ok (.getfield 13, 3) := by decide +kernel
theorem dX1_needsMet_245 : decode cX1_needsMet 245 = .ok (.iload_n 1, 1) := by decide +kernel
theorem dX1_needsMet_246 : decode cX1_needsMet 246 = .ok (.iaload, 1) := by decide +kernel
theorem dX1_needsMet_247 : decode cX1_needsMet 247 = .ok (.aload_n 0, 1) := by decide +kernel
theorem dX1_needsMet_248 : decode cX1_needsMet 248 = .ok (.getfield 36, 3) := by decide +kernel
theorem dX1_needsMet_251 : decode cX1_needsMet 251 = .ok (.invokevirtual 47, 3) := by decide +kernel
theorem dX1_needsMet_254 : decode cX1_needsMet 254 = .ok (.ifCond .eq 24, 3) := by decide +kernel
theorem dX1_needsMet_257 : decode cX1_needsMet 257 = .ok (.aload_n 0, 1) := by decide +kernel
theorem dX1_needsMet_258 : decode cX1_needsMet 258 = .ok (.aload_n 0, 1) := by decide +kernel
theorem dX1_needsMet_259 : decode cX1_needsMet 259 = .ok (.getfield 16, 3) := by decide +kernel
theorem dX1_needsMet_262 : decode cX1_needsMet 262 = .ok (.iload_n 1, 1) := by decide +kernel
theorem dX1_needsMet_263 : decode cX1_needsMet 263 = .ok (.iaload, 1) := by decide +kernel
theorem dX1_needsMet_264 : decode cX1_needsMet 264 = .ok (.aload_n 0, 1) := by decide +kernel
theorem dX1_needsMet_265 : decode cX1_needsMet 265 = .ok (.getfield 40, 3) := by decide +kernel
theorem dX1_needsMet_268 : decode cX1_needsMet 268 = .ok (.invokevirtual 47, 3) := by decide +kernel
theorem dX1_needsMet_271 : decode cX1_needsMet 271 = .ok (.ifCond .eq 7, 3) := by decide +kernel
theorem dX1_needsMet_274 : decode cX1_needsMet 274 = .ok (.iconst 1, 1) := by decide +kernel
theorem dX1_needsMet_275 : decode cX1_needsMet 275 = .ok (.goto 4, 3) := by decide +kernel
theorem dX1_needsMet_278 : decode cX1_needsMet 278 = .ok (.iconst 0, 1) := by decide +kernel
theorem dX1_needsMet_279 : decode cX1_needsMet 279 = .ok (.ireturn, 1) := by decide +kernel
abbrev cX1_hasAt : ByteArray := prog_3_method_6_code
def yX1_hasAt : MethodName := ⟨RX1, "hasAt", "(II)Z"⟩
theorem dX1_hasAt_0 : decode cX1_hasAt 0 = .ok (.iload_n 2, 1) := by decide +kernel
theorem dX1_hasAt_1 : decode cX1_hasAt 1 = .ok (.ifCond .lt 27, 3) := by decide +kernel
theorem dX1_hasAt_4 : decode cX1_hasAt 4 = .ok (.iload_n 2, 1) := by decide +kernel
theorem dX1_hasAt_5 : decode cX1_hasAt 5 = .ok (.bipush 20, 2) := by decide +kernel
theorem dX1_hasAt_7 : decode cX1_hasAt 7 = .ok (.if_icmp .gt 21, 3) := by decide +kernel
theorem dX1_hasAt_10 : decode cX1_hasAt 10 = .ok (.aload_n 0, 1) := by decide +kernel
theorem dX1_hasAt_11 : decode cX1_hasAt 11 = .ok (.getfield 19, 3) := by decide +kernel
theorem dX1_hasAt_14 : decode cX1_hasAt 14 = .ok (.bipush 21, 2) := by decide +kernel
theorem dX1_hasAt_16 : decode cX1_hasAt 16 = .ok (.iload_n 1, 1) := by decide +kernel
theorem dX1_hasAt_17 : decode cX1_hasAt 17 = .ok (.imul, 1) := by decide +kernel
theorem dX1_hasAt_18 : decode cX1_hasAt 18 = .ok (.iload_n 2, 1) := by decide +kernel
theorem dX1_hasAt_19 : decode cX1_hasAt 19 = .ok (.iadd, 1) := by decide +kernel
theorem dX1_hasAt_20 : decode cX1_hasAt 20 = .ok (.baload, 1) := by decide +kernel
theorem dX1_hasAt_21 : decode cX1_hasAt 21 = .ok (.ifCond .eq 7, 3) := by decide +kernel
theorem dX1_hasAt_24 : decode cX1_hasAt 24 = .ok (.iconst 1, 1) := by decide +kernel
theorem dX1_hasAt_25 : decode cX1_hasAt 25 = .ok (.goto 4, 3) := by decide +kernel
theorem dX1_hasAt_28 : decode cX1_hasAt 28 = .ok (.iconst 0, 1) := by decide +kernel
theorem dX1_hasAt_29 : decode cX1_hasAt 29 = .ok (.ireturn, 1) := by decide +kernel
abbrev cX1_walk : ByteArray := prog_3_method_8_code
def yX1_walk : MethodName := ⟨RX1, "walk", "(II)V"⟩
theorem dX1_walk_0 : decode cX1_walk 0 = .ok (.aload_n 0, 1) := by decide +kernel
theorem dX1_walk_1 : decode cX1_walk 1 = .ok (.iconst 0, 1) := by decide +kernel
theorem dX1_walk_2 : decode cX1_walk 2 = .ok (.putfield 36, 3) := by decide +kernel
theorem dX1_walk_5 : decode cX1_walk 5 = .ok (.aload_n 0, 1) := by decide +kernel
theorem dX1_walk_6 : decode cX1_walk 6 = .ok (.iconst 0, 1) := by decide +kernel
theorem dX1_walk_7 : decode cX1_walk 7 = .ok (.putfield 40, 3) := by decide +kernel
theorem dX1_walk_10 : decode cX1_walk 10 = .ok (.iconst 0, 1) := by decide +kernel
theorem dX1_walk_11 : decode cX1_walk 11 = .ok (.istore_n 3, 1) := by decide +kernel
theorem dX1_walk_12 : decode cX1_walk 12 = .ok (.iload_n 3, 1) := by decide +kernel
theorem dX1_walk_13 : decode cX1_walk 13 = .ok (.iload_n 2, 1) := by decide +kernel
theorem dX1_walk_14 : decode cX1_walk 14 = .ok (.if_icmp .ge 75, 3) := by decide +kernel
theorem dX1_walk_17 : decode cX1_walk 17 = .ok (.aload_n 0, 1) := by decide +kernel
theorem dX1_walk_18 : decode cX1_walk 18 = .ok (.aload_n 0, 1) := by decide +kernel
theorem dX1_walk_19 : decode cX1_walk 19 = .ok (.getfield 13, 3) := by decide +kernel
theorem dX1_walk_22 : decode cX1_walk 22 = .ok (.iload_n 1, 1) := by decide +kernel
theorem dX1_walk_23 : decode cX1_walk 23 = .ok (.iaload, 1) := by decide +kernel
theorem dX1_walk_24 : decode cX1_walk 24 = .ok (.aload_n 0, 1) := by decide +kernel
theorem dX1_walk_25 : decode cX1_walk 25 = .ok (.getfield 36, 3) := by decide +kernel
theorem dX1_walk_28 : decode cX1_walk 28 = .ok (.invokevirtual 43, 3) := by decide +kernel
theorem dX1_walk_31 : decode cX1_walk 31 = .ok (.istore 4, 2) := by decide +kernel
theorem dX1_walk_33 : decode cX1_walk 33 = .ok (.aload_n 0, 1) := by decide +kernel
theorem dX1_walk_34 : decode cX1_walk 34 = .ok (.aload_n 0, 1) := by decide +kernel
theorem dX1_walk_35 : decode cX1_walk 35 = .ok (.getfield 16, 3) := by decide +kernel
theorem dX1_walk_38 : decode cX1_walk 38 = .ok (.iload_n 1, 1) := by decide +kernel
theorem dX1_walk_39 : decode cX1_walk 39 = .ok (.iaload, 1) := by decide +kernel
theorem dX1_walk_40 : decode cX1_walk 40 = .ok (.aload_n 0, 1) := by decide +kernel
theorem dX1_walk_41 : decode cX1_walk 41 = .ok (.getfield 40, 3) := by decide +kernel
theorem dX1_walk_44 : decode cX1_walk 44 = .ok (.invokevirtual 43, 3) := by decide +kernel
theorem dX1_walk_47 : decode cX1_walk 47 = .ok (.istore 5, 2) := by decide +kernel
theorem dX1_walk_49 : decode cX1_walk 49 = .ok (.iload 4, 2) := by decide +kernel
theorem dX1_walk_51 : decode cX1_walk 51 = .ok (.iload 5, 2) := by decide +kernel
theorem dX1_walk_53 : decode cX1_walk 53 = .ok (.if_icmp .gt 13, 3) := by decide +kernel
theorem dX1_walk_56 : decode cX1_walk 56 = .ok (.aload_n 0, 1) := by decide +kernel
theorem dX1_walk_57 : decode cX1_walk 57 = .ok (.dup, 1) := by decide +kernel
theorem dX1_walk_58 : decode cX1_walk 58 = .ok (.getfield 36, 3) := by decide +kernel
theorem dX1_walk_61 : decode cX1_walk 61 = .ok (.iconst 1, 1) := by decide +kernel
theorem dX1_walk_62 : decode cX1_walk 62 = .ok (.iadd, 1) := by decide +kernel
theorem dX1_walk_63 : decode cX1_walk 63 = .ok (.putfield 36, 3) := by decide +kernel
theorem dX1_walk_66 : decode cX1_walk 66 = .ok (.iload 5, 2) := by decide +kernel
theorem dX1_walk_68 : decode cX1_walk 68 = .ok (.iload 4, 2) := by decide +kernel
theorem dX1_walk_70 : decode cX1_walk 70 = .ok (.if_icmp .gt 13, 3) := by decide +kernel
theorem dX1_walk_73 : decode cX1_walk 73 = .ok (.aload_n 0, 1) := by decide +kernel
theorem dX1_walk_74 : decode cX1_walk 74 = .ok (.dup, 1) := by decide +kernel
theorem dX1_walk_75 : decode cX1_walk 75 = .ok (.getfield 40, 3) := by decide +kernel
theorem dX1_walk_78 : decode cX1_walk 78 = .ok (.iconst 1, 1) := by decide +kernel
theorem dX1_walk_79 : decode cX1_walk 79 = .ok (.iadd, 1) := by decide +kernel
theorem dX1_walk_80 : decode cX1_walk 80 = .ok (.putfield 40, 3) := by decide +kernel
theorem dX1_walk_83 : decode cX1_walk 83 = .ok (.iinc 3 1, 3) := by decide +kernel
theorem dX1_walk_86 : decode cX1_walk 86 = .ok (.goto (-74), 3) := by decide +kernel
theorem dX1_walk_89 : decode cX1_walk 89 = .ok (.return_, 1) := by decide +kernel
abbrev cX1_at : ByteArray := prog_3_method_7_code
def yX1_at : MethodName := ⟨RX1, "at", "(II)I"⟩
theorem dX1_at_0 : decode cX1_at 0 = .ok (.aload_n 0, 1) := by decide +kernel
theorem dX1_at_1 : decode cX1_at 1 = .ok (.getfield 23, 3) := by decide +kernel
theorem dX1_at_4 : decode cX1_at 4 = .ok (.bipush 21, 2) := by decide +kernel
theorem dX1_at_6 : decode cX1_at 6 = .ok (.iload_n 1, 1) := by decide +kernel
theorem dX1_at_7 : decode cX1_at 7 = .ok (.imul, 1) := by decide +kernel
theorem dX1_at_8 : decode cX1_at 8 = .ok (.iload_n 2, 1) := by decide +kernel
theorem dX1_at_9 : decode cX1_at 9 = .ok (.iadd, 1) := by decide +kernel
theorem dX1_at_10 : decode cX1_at 10 = .ok (.iaload, 1) := by decide +kernel
theorem dX1_at_11 : decode cX1_at 11 = .ok (.ireturn, 1) := by decide +kernel
abbrev cX1_worth : ByteArray := prog_3_method_10_code
def yX1_worth : MethodName := ⟨RX1, "worth", "(II)I"⟩
theorem dX1_worth_0 : decode cX1_worth 0 = .ok (.aload_n 0, 1) := by decide +kernel
theorem dX1_worth_1 : decode cX1_worth 1 = .ok (.getfield 7, 3) := by decide +kernel
theorem dX1_worth_4 : decode cX1_worth 4 = .ok (.iload_n 1, 1) := by decide +kernel
theorem dX1_worth_5 : decode cX1_worth 5 = .ok (.iaload, 1) := by decide +kernel
theorem dX1_worth_6 : decode cX1_worth 6 = .ok (.ifCond .ne 19, 3) := by decide +kernel
theorem dX1_worth_9 : decode cX1_worth 9 = .ok (.aload_n 0, 1) := by decide +kernel
theorem dX1_worth_10 : decode cX1_worth 10 = .ok (.getfield 13, 3) := by decide +kernel
theorem dX1_worth_13 : decode cX1_worth 13 = .ok (.iload_n 1, 1) := by decide +kernel
theorem dX1_worth_14 : decode cX1_worth 14 = .ok (.iaload, 1) := by decide +kernel
theorem dX1_worth_15 : decode cX1_worth 15 = .ok (.iload_n 2, 1) := by decide +kernel
theorem dX1_worth_16 : decode cX1_worth 16 = .ok (.aload_n 0, 1) := by decide +kernel
theorem dX1_worth_17 : decode cX1_worth 17 = .ok (.getfield 16, 3) := by decide +kernel
theorem dX1_worth_20 : decode cX1_worth 20 = .ok (.iload_n 1, 1) := by decide +kernel
theorem dX1_worth_21 : decode cX1_worth 21 = .ok (.iaload, 1) := by decide +kernel
theorem dX1_worth_22 : decode cX1_worth 22 = .ok (.imul, 1) := by decide +kernel
theorem dX1_worth_23 : decode cX1_worth 23 = .ok (.iadd, 1) := by decide +kernel
theorem dX1_worth_24 : decode cX1_worth 24 = .ok (.ireturn, 1) := by decide +kernel
theorem dX1_worth_25 : decode cX1_worth 25 = .ok (.aload_n 0, 1) := by decide +kernel
theorem dX1_worth_26 : decode cX1_worth 26 = .ok (.getfield 7, 3) := by decide +kernel
theorem dX1_worth_29 : decode cX1_worth 29 = .ok (.iload_n 1, 1) := by decide +kernel
theorem dX1_worth_30 : decode cX1_worth 30 = .ok (.iaload, 1) := by decide +kernel
theorem dX1_worth_31 : decode cX1_worth 31 = .ok (.iconst 1, 1) := by decide +kernel
theorem dX1_worth_32 : decode cX1_worth 32 = .ok (.if_icmp .ne 30, 3) := by decide +kernel
theorem dX1_worth_35 : decode cX1_worth 35 = .ok (.iload_n 2, 1) := by decide +kernel
theorem dX1_worth_36 : decode cX1_worth 36 = .ok (.ifCond .ne 12, 3) := by decide +kernel
theorem dX1_worth_39 : decode cX1_worth 39 = .ok (.aload_n 0, 1) := by decide +kernel
theorem dX1_worth_40 : decode cX1_worth 40 = .ok (.getfield 13, 3) := by decide +kernel
theorem dX1_worth_43 : decode cX1_worth 43 = .ok (.iload_n 1, 1) := by decide +kernel
theorem dX1_worth_44 : decode cX1_worth 44 = .ok (.iaload, 1) := by decide +kernel
theorem dX1_worth_45 : decode cX1_worth 45 = .ok (.goto 16, 3) := by decide +kernel
theorem dX1_worth_48 : decode cX1_worth 48 = .ok (.aload_n 0, 1) := by decide +kernel
theorem dX1_worth_49 : decode cX1_worth 49 = .ok (.aload_n 0, 1) := by decide +kernel
theorem dX1_worth_50 : decode cX1_worth 50 = .ok (.getfield 16, 3) := by decide +kernel
theorem dX1_worth_53 : decode cX1_worth 53 = .ok (.iload_n 1, 1) := by decide +kernel
theorem dX1_worth_54 : decode cX1_worth 54 = .ok (.iaload, 1) := by decide +kernel
theorem dX1_worth_55 : decode cX1_worth 55 = .ok (.iload_n 2, 1) := by decide +kernel
theorem dX1_worth_56 : decode cX1_worth 56 = .ok (.iconst 1, 1) := by decide +kernel
theorem dX1_worth_57 : decode cX1_worth 57 = .ok (.isub, 1) := by decide +kernel
theorem dX1_worth_58 : decode cX1_worth 58 = .ok (.invokevirtual 43, 3) := by decide +kernel
theorem dX1_worth_61 : decode cX1_worth 61 = .ok (.ireturn, 1) := by decide +kernel
theorem dX1_worth_62 : decode cX1_worth 62 = .ok (.aload_n 0, 1) := by decide +kernel
theorem dX1_worth_63 : decode cX1_worth 63 = .ok (.getfield 7, 3) := by decide +kernel
theorem dX1_worth_66 : decode cX1_worth 66 = .ok (.iload_n 1, 1) := by decide +kernel
theorem dX1_worth_67 : decode cX1_worth 67 = .ok (.iaload, 1) := by decide +kernel
theorem dX1_worth_68 : decode cX1_worth 68 = .ok (.iconst 2, 1) := by decide +kernel
theorem dX1_worth_69 : decode cX1_worth 69 = .ok (.if_icmp .ne 17, 3) := by decide +kernel
theorem dX1_worth_72 : decode cX1_worth 72 = .ok (.aload_n 0, 1) := by decide +kernel
theorem dX1_worth_73 : decode cX1_worth 73 = .ok (.aload_n 0, 1) := by decide +kernel
theorem dX1_worth_74 : decode cX1_worth 74 = .ok (.getfield 13, 3) := by decide +kernel
theorem dX1_worth_77 : decode cX1_worth 77 = .ok (.iload_n 1, 1) := by decide +kernel
theorem dX1_worth_78 : decode cX1_worth 78 = .ok (.iaload, 1) := by decide +kernel
theorem dX1_worth_79 : decode cX1_worth 79 = .ok (.iload_n 2, 1) := by decide +kernel
theorem dX1_worth_80 : decode cX1_worth 80 = .ok (.iconst 1, 1) := by decide +kernel
theorem dX1_worth_81 : decode cX1_worth 81 = .ok (.iadd, 1) := by decide +kernel
theorem dX1_worth_82 : decode cX1_worth 82 = .ok (.invokevirtual 43, 3) := by decide +kernel
theorem dX1_worth_85 : decode cX1_worth 85 = .ok (.ireturn, 1) := by decide +kernel
theorem dX1_worth_86 : decode cX1_worth 86 = .ok (.aload_n 0, 1) := by decide +kernel
theorem dX1_worth_87 : decode cX1_worth 87 = .ok (.getfield 7, 3) := by decide +kernel
theorem dX1_worth_90 : decode cX1_worth 90 = .ok (.iload_n 1, 1) := by decide +kernel
theorem dX1_worth_91 : decode cX1_worth 91 = .ok (.iaload, 1) := by decide +kernel
theorem dX1_worth_92 : decode cX1_worth 92 = .ok (.iconst 3, 1) := by decide +kernel
theorem dX1_worth_93 : decode cX1_worth 93 = .ok (.if_icmp .ne 27, 3) := by decide +kernel
theorem dX1_worth_96 : decode cX1_worth 96 = .ok (.aload_n 0, 1) := by decide +kernel
theorem dX1_worth_97 : decode cX1_worth 97 = .ok (.aload_n 0, 1) := by decide +kernel
theorem dX1_worth_98 : decode cX1_worth 98 = .ok (.getfield 13, 3) := by decide +kernel
theorem dX1_worth_101 : decode cX1_worth 101 = .ok (.iload_n 1, 1) := by decide +kernel
theorem dX1_worth_102 : decode cX1_worth 102 = .ok (.iaload, 1) := by decide +kernel
theorem dX1_worth_103 : decode cX1_worth 103 = .ok (.iload_n 2, 1) := by decide +kernel
theorem dX1_worth_104 : decode cX1_worth 104 = .ok (.invokevirtual 43, 3) := by decide +kernel
theorem dX1_worth_107 : decode cX1_worth 107 = .ok (.aload_n 0, 1) := by decide +kernel
theorem dX1_worth_108 : decode cX1_worth 108 = .ok (.aload_n 0, 1) := by decide +kernel
theorem dX1_worth_109 : decode cX1_worth 109 = .ok (.getfield 16, 3) := by decide +kernel
theorem dX1_worth_112 : decode cX1_worth 112 = .ok (.iload_n 1, 1) := by decide +kernel
theorem dX1_worth_113 : decode cX1_worth 113 = .ok (.iaload, 1) := by decide +kernel
theorem dX1_worth_114 : decode cX1_worth 114 = .ok (.iload_n 2, 1) := by decide +kernel
theorem dX1_worth_115 : decode cX1_worth 115 = .ok (.invokevirtual 43, 3) := by decide +kernel
theorem dX1_worth_118 : decode cX1_worth 118 = .ok (.iadd, 1) := by decide +kernel
theorem dX1_worth_119 : decode cX1_worth 119 = .ok (.ireturn, 1) := by decide +kernel
theorem dX1_worth_120 : decode cX1_worth 120 = .ok (.aload_n 0, 1) := by decide +kernel
theorem dX1_worth_121 : decode cX1_worth 121 = .ok (.getfield 7, 3) := by decide +kernel
theorem dX1_worth_124 : decode cX1_worth 124 = .ok (.iload_n 1, 1) := by decide +kernel
theorem dX1_worth_125 : decode cX1_worth 125 = .ok (.iaload, 1) := by decide +kernel
theorem dX1_worth_126 : decode cX1_worth 126 = .ok (.iconst 4, 1) := by decide +kernel
theorem dX1_worth_127 : decode cX1_worth 127 = .ok (.if_icmp .ne 27, 3) := by decide +kernel
theorem dX1_worth_130 : decode cX1_worth 130 = .ok (.aload_n 0, 1) := by decide +kernel
theorem dX1_worth_131 : decode cX1_worth 131 = .ok (.aload_n 0, 1) := by decide +kernel
theorem dX1_worth_132 : decode cX1_worth 132 = .ok (.getfield 13, 3) := by decide +kernel
theorem dX1_worth_135 : decode cX1_worth 135 = .ok (.iload_n 1, 1) := by decide +kernel
theorem dX1_worth_136 : decode cX1_worth 136 = .ok (.iaload, 1) := by decide +kernel
theorem dX1_worth_137 : decode cX1_worth 137 = .ok (.iload_n 2, 1) := by decide +kernel
theorem dX1_worth_138 : decode cX1_worth 138 = .ok (.invokevirtual 43, 3) := by decide +kernel
theorem dX1_worth_141 : decode cX1_worth 141 = .ok (.aload_n 0, 1) := by decide +kernel
theorem dX1_worth_142 : decode cX1_worth 142 = .ok (.aload_n 0, 1) := by decide +kernel
theorem dX1_worth_143 : decode cX1_worth 143 = .ok (.getfield 16, 3) := by decide +kernel
theorem dX1_worth_146 : decode cX1_worth 146 = .ok (.iload_n 1, 1) := by decide +kernel
theorem dX1_worth_147 : decode cX1_worth 147 = .ok (.iaload, 1) := by decide +kernel
theorem dX1_worth_148 : decode cX1_worth 148 = .ok (.iload_n 2, 1) := by decide +kernel
theorem dX1_worth_149 : decode cX1_worth 149 = .ok (.invokevirtual 43, 3) := by decide +kernel
theorem dX1_worth_152 : decode cX1_worth 152 = .ok (.imul, 1) := by decide +kernel
theorem dX1_worth_153 : decode cX1_worth 153 = .ok (.ireturn, 1) := by decide +kernel
theorem dX1_worth_154 : decode cX1_worth 154 = .ok (.aload_n 0, 1) := by decide +kernel
theorem dX1_worth_155 : decode cX1_worth 155 = .ok (.getfield 7, 3) := by decide +kernel
theorem dX1_worth_158 : decode cX1_worth 158 = .ok (.iload_n 1, 1) := by decide +kernel
theorem dX1_worth_159 : decode cX1_worth 159 = .ok (.iaload, 1) := by decide +kernel
theorem dX1_worth_160 : decode cX1_worth 160 = .ok (.iconst 5, 1) := by decide +kernel
theorem dX1_worth_161 : decode cX1_worth 161 = .ok (.if_icmp .ne 22, 3) := by decide +kernel
theorem dX1_worth_164 : decode cX1_worth 164 = .ok (.aload_n 0, 1) := by decide +kernel
theorem dX1_worth_165 : decode cX1_worth 165 = .ok (.getfield 13, 3) := by decide +kernel
theorem dX1_worth_168 : decode cX1_worth 168 = .ok (.iload_n 1, 1) := by decide +kernel
theorem dX1_worth_169 : decode cX1_worth 169 = .ok (.iaload, 1) := by decide +kernel
theorem dX1_worth_170 : decode cX1_worth 170 = .ok (.aload_n 0, 1) := by decide +kernel
theorem dX1_worth_171 : decode cX1_worth 171 = .ok (.aload_n 0, 1) := by decide +kernel
theorem dX1_worth_172 : decode cX1_worth 172 = .ok (.getfield 16, 3) := by decide +kernel
theorem dX1_worth_175 : decode cX1_worth 175 = .ok (.iload_n 1, 1) := by decide +kernel
theorem dX1_worth_176 : decode cX1_worth 176 = .ok (.iaload, 1) := by decide +kernel
theorem dX1_worth_177 : decode cX1_worth 177 = .ok (.iload_n 2, 1) := by decide +kernel
theorem dX1_worth_178 : decode cX1_worth 178 = .ok (.invokevirtual 43, 3) := by decide +kernel
theorem dX1_worth_181 : decode cX1_worth 181 = .ok (.imul, 1) := by decide +kernel
theorem dX1_worth_182 : decode cX1_worth 182 = .ok (.ireturn, 1) := by decide +kernel
theorem dX1_worth_183 : decode cX1_worth 183 = .ok (.aload_n 0, 1) := by decide +kernel
theorem dX1_worth_184 : decode cX1_worth 184 = .ok (.getfield 7, 3) := by decide +kernel
theorem dX1_worth_187 : decode cX1_worth 187 = .ok (.iload_n 1, 1) := by decide +kernel
theorem dX1_worth_188 : decode cX1_worth 188 = .ok (.iaload, 1) := by decide +kernel
theorem dX1_worth_189 : decode cX1_worth 189 = .ok (.bipush 7, 2) := by decide +kernel
theorem dX1_worth_191 : decode cX1_worth 191 = .ok (.if_icmp .ne 39, 3) := by decide +kernel
theorem dX1_worth_194 : decode cX1_worth 194 = .ok (.iload_n 2, 1) := by decide +kernel
theorem dX1_worth_195 : decode cX1_worth 195 = .ok (.iconst 2, 1) := by decide +kernel
theorem dX1_worth_196 : decode cX1_worth 196 = .ok (.irem, 1) := by decide +kernel
theorem dX1_worth_197 : decode cX1_worth 197 = .ok (.ifCond .ne 19, 3) := by decide +kernel
theorem dX1_worth_200 : decode cX1_worth 200 = .ok (.aload_n 0, 1) := by decide +kernel
theorem dX1_worth_201 : decode cX1_worth 201 = .ok (.aload_n 0, 1) := by decide +kernel
theorem dX1_worth_202 : decode cX1_worth 202 = .ok (.getfield 13, 3) := by decide +kernel
theorem dX1_worth_205 : decode cX1_worth 205 = .ok (.iload_n 1, 1) := by decide +kernel
theorem dX1_worth_206 : decode cX1_worth 206 = .ok (.iaload, 1) := by decide +kernel
theorem dX1_worth_207 : decode cX1_worth 207 = .ok (.iload_n 2, 1) := by decide +kernel
theorem dX1_worth_208 : decode cX1_worth 208 = .ok (.iconst 2, 1) := by decide +kernel
theorem dX1_worth_209 : decode cX1_worth 209 = .ok (.idiv, 1) := by decide +kernel
theorem dX1_worth_210 : decode cX1_worth 210 = .ok (.invokevirtual 43, 3) := by decide +kernel
theorem dX1_worth_213 : decode cX1_worth 213 = .ok (.goto 16, 3) := by decide +kernel
theorem dX1_worth_216 : decode cX1_worth 216 = .ok (.aload_n 0, 1) := by decide +kernel
theorem dX1_worth_217 : decode cX1_worth 217 = .ok (.aload_n 0, 1) := by decide +kernel
theorem dX1_worth_218 : decode cX1_worth 218 = .ok (.getfield 16, 3) := by decide +kernel
theorem dX1_worth_221 : decode cX1_worth 221 = .ok (.iload_n 1, 1) := by decide +kernel
theorem dX1_worth_222 : decode cX1_worth 222 = .ok (.iaload, 1) := by decide +kernel
theorem dX1_worth_223 : decode cX1_worth 223 = .ok (.iload_n 2, 1) := by decide +kernel
theorem dX1_worth_224 : decode cX1_worth 224 = .ok (.iconst 2, 1) := by decide +kernel
theorem dX1_worth_225 : decode cX1_worth 225 = .ok (.idiv, 1) := by decide +kernel
theorem dX1_worth_226 : decode cX1_worth 226 = .ok (.invokevirtual 43, 3) := by decide +kernel
theorem dX1_worth_229 : decode cX1_worth 229 = .ok (.ireturn, 1) := by decide +kernel
theorem dX1_worth_230 : decode cX1_worth 230 = .ok (.aload_n 0, 1) := by decide +kernel
theorem dX1_worth_231 : decode cX1_worth 231 = .ok (.getfield 7, 3) := by decide +kernel
theorem dX1_worth_234 : decode cX1_worth 234 = .ok (.iload_n 1, 1) := by decide +kernel
theorem dX1_worth_235 : decode cX1_worth 235 = .ok (.iaload, 1) := by decide +kernel
theorem dX1_worth_236 : decode cX1_worth 236 = .ok (.bipush 6, 2) := by decide +kernel
theorem dX1_worth_238 : decode cX1_worth 238 = .ok (.if_icmp .ne 37, 3) := by decide +kernel
theorem dX1_worth_241 : decode cX1_worth 241 = .ok (.iconst 0, 1) := by decide +kernel
theorem dX1_worth_242 : decode cX1_worth 242 = .ok (.istore_n 3, 1) := by decide +kernel
theorem dX1_worth_243 : decode cX1_worth 243 = .ok (.iconst 0, 1) := by decide +kernel
theorem dX1_worth_244 : decode cX1_worth 244 = .ok (.istore 4, 2) := by decide +kernel
theorem dX1_worth_246 : decode cX1_worth 246 = .ok (.iload 4, 2) := by decide +kernel
theorem dX1_worth_248 : decode cX1_worth 248 = .ok (.iload_n 2, 1) := by decide +kernel
theorem dX1_worth_249 : decode cX1_worth 249 = .ok (.if_icmp .gt 24, 3) := by decide +kernel
theorem dX1_worth_252 : decode cX1_worth 252 = .ok (.iload_n 3, 1) := by decide +kernel
theorem dX1_worth_253 : decode cX1_worth 253 = .ok (.aload_n 0, 1) := by decide +kernel
theorem dX1_worth_254 : decode cX1_worth 254 = .ok (.aload_n 0, 1) := by decide +kernel
theorem dX1_worth_255 : decode cX1_worth 255 = .ok (.getfield 13, 3) := by decide +kernel
theorem dX1_worth_258 : decode cX1_worth 258 = .ok (.iload_n 1, 1) := by decide +kernel
theorem dX1_worth_259 : decode cX1_worth 259 = .ok (.iaload, 1) := by decide +kernel
theorem dX1_worth_260 : decode cX1_worth 260 = .ok (.iload 4, 2) := by decide +kernel
theorem dX1_worth_262 : decode cX1_worth 262 = .ok (.invokevirtual 43, 3) := by decide +kernel
theorem dX1_worth_265 : decode cX1_worth 265 = .ok (.iadd, 1) := by decide +kernel
theorem dX1_worth_266 : decode cX1_worth 266 = .ok (.istore_n 3, 1) := by decide +kernel
theorem dX1_worth_267 : decode cX1_worth 267 = .ok (.iinc 4 1, 3) := by decide +kernel
theorem dX1_worth_270 : decode cX1_worth 270 = .ok (.goto (-24), 3) := by decide +kernel
theorem dX1_worth_273 : decode cX1_worth 273 = .ok (.iload_n 3, 1) := by decide +kernel
theorem dX1_worth_274 : decode cX1_worth 274 = .ok (.ireturn, 1) := by decide +kernel
theorem dX1_worth_275 : decode cX1_worth 275 = .ok (.aload_n 0, 1) := by decide +kernel
theorem dX1_worth_276 : decode cX1_worth 276 = .ok (.iload_n 1, 1) := by decide +kernel
theorem dX1_worth_277 : decode cX1_worth 277 = .ok (.iload_n 2, 1) := by decide +kernel
theorem dX1_worth_278 : decode cX1_worth 278 = .ok (.invokevirtual 51, 3) := by decide +kernel
theorem dX1_worth_281 : decode cX1_worth 281 = .ok (.aload_n 0, 1) := by decide +kernel
theorem dX1_worth_282 : decode cX1_worth 282 = .ok (.aload_n 0, 1) := by decide +kernel
theorem dX1_worth_283 : decode cX1_worth 283 = .ok (.getfield 13, 3) := by decide +kernel
theorem dX1_worth_286 : decode cX1_worth 286 = .ok (.iload_n 1, 1) := by decide +kernel
theorem dX1_worth_287 : decode cX1_worth 287 = .ok (.iaload, 1) := by decide +kernel
theorem dX1_worth_288 : decode cX1_worth 288 = .ok (.aload_n 0, 1) := by decide +kernel
theorem dX1_worth_289 : decode cX1_worth 289 = .ok (.getfield 36, 3) := by decide +kernel
theorem dX1_worth_292 : decode cX1_worth 292 = .ok (.invokevirtual 43, 3) := by decide +kernel
theorem dX1_worth_295 : decode cX1_worth 295 = .ok (.istore_n 3, 1) := by decide +kernel
theorem dX1_worth_296 : decode cX1_worth 296 = .ok (.aload_n 0, 1) := by decide +kernel
theorem dX1_worth_297 : decode cX1_worth 297 = .ok (.aload_n 0, 1) := by decide +kernel
theorem dX1_worth_298 : decode cX1_worth 298 = .ok (.getfield 16, 3) := by decide +kernel
theorem dX1_worth_301 : decode cX1_worth 301 = .ok (.iload_n 1, 1) := by decide +kernel
theorem dX1_worth_302 : decode cX1_worth 302 = .ok (.iaload, 1) := by decide +kernel
theorem dX1_worth_303 : decode cX1_worth 303 = .ok (.aload_n 0, 1) := by decide +kernel
theorem dX1_worth_304 : decode cX1_worth 304 = .ok (.getfield 40, 3) := by decide +kernel
theorem dX1_worth_307 : decode cX1_worth 307 = .ok (.invokevirtual 43, 3) := by decide +kernel
theorem dX1_worth_310 : decode cX1_worth 310 = .ok (.istore 4, 2) := by decide +kernel
theorem dX1_worth_312 : decode cX1_worth 312 = .ok (.iload_n 3, 1) := by decide +kernel
theorem dX1_worth_313 : decode cX1_worth 313 = .ok (.iload 4, 2) := by decide +kernel
theorem dX1_worth_315 : decode cX1_worth 315 = .ok (.if_icmp .ge 7, 3) := by decide +kernel
theorem dX1_worth_318 : decode cX1_worth 318 = .ok (.iload_n 3, 1) := by decide +kernel
theorem dX1_worth_319 : decode cX1_worth 319 = .ok (.goto 5, 3) := by decide +kernel
theorem dX1_worth_322 : decode cX1_worth 322 = .ok (.iload 4, 2) := by decide +kernel
theorem dX1_worth_324 : decode cX1_worth 324 = .ok (.ireturn, 1) := by decide +kernel
abbrev cX1_element : ByteArray := prog_3_method_15_code
def yX1_element : MethodName := ⟨RX1, "element", "(II)I"⟩
theorem dX1_element_0 : decode cX1_element 0 = .ok (.aload_n 0, 1) := by decide +kernel
theorem dX1_element_1 : decode cX1_element 1 = .ok (.iload_n 1, 1) := by decide +kernel
theorem dX1_element_2 : decode cX1_element 2 = .ok (.iload_n 2, 1) := by decide +kernel
theorem dX1_element_3 : decode cX1_element 3 = .ok (.invokevirtual 65, 3) := by decide +kernel
theorem dX1_element_6 : decode cX1_element 6 = .ok (.ifCond .ne 5, 3) := by decide +kernel
theorem dX1_element_9 : decode cX1_element 9 = .ok (.iconst 0, 1) := by decide +kernel
theorem dX1_element_10 : decode cX1_element 10 = .ok (.ireturn, 1) := by decide +kernel
theorem dX1_element_11 : decode cX1_element 11 = .ok (.aload_n 0, 1) := by decide +kernel
theorem dX1_element_12 : decode cX1_element 12 = .ok (.invokevirtual 68, 3) := by decide +kernel
theorem dX1_element_15 : decode cX1_element 15 = .ok (.aload_n 0, 1) := by decide +kernel
theorem dX1_element_16 : decode cX1_element 16 = .ok (.iload_n 1, 1) := by decide +kernel
theorem dX1_element_17 : decode cX1_element 17 = .ok (.iload_n 2, 1) := by decide +kernel
theorem dX1_element_18 : decode cX1_element 18 = .ok (.invokevirtual 47, 3) := by decide +kernel
theorem dX1_element_21 : decode cX1_element 21 = .ok (.ifCond .eq 12, 3) := by decide +kernel
theorem dX1_element_24 : decode cX1_element 24 = .ok (.aload_n 0, 1) := by decide +kernel
theorem dX1_element_25 : decode cX1_element 25 = .ok (.iload_n 1, 1) := by decide +kernel
theorem dX1_element_26 : decode cX1_element 26 = .ok (.iload_n 2, 1) := by decide +kernel
theorem dX1_element_27 : decode cX1_element 27 = .ok (.invokevirtual 43, 3) := by decide +kernel
theorem dX1_element_30 : decode cX1_element 30 = .ok (.goto 4, 3) := by decide +kernel
theorem dX1_element_33 : decode cX1_element 33 = .ok (.iconst 0, 1) := by decide +kernel
theorem dX1_element_34 : decode cX1_element 34 = .ok (.ireturn, 1) := by decide +kernel
abbrev cX1_known : ByteArray := prog_3_method_16_code
def yX1_known : MethodName := ⟨RX1, "known", "(I)I"⟩
theorem dX1_known_0 : decode cX1_known 0 = .ok (.aload_n 0, 1) := by decide +kernel
theorem dX1_known_1 : decode cX1_known 1 = .ok (.iload_n 1, 1) := by decide +kernel
theorem dX1_known_2 : decode cX1_known 2 = .ok (.invokevirtual 26, 3) := by decide +kernel
theorem dX1_known_5 : decode cX1_known 5 = .ok (.ifCond .ne 5, 3) := by decide +kernel
theorem dX1_known_8 : decode cX1_known 8 = .ok (.iconst (-1), 1) := by decide +kernel
theorem dX1_known_9 : decode cX1_known 9 = .ok (.ireturn, 1) := by decide +kernel
theorem dX1_known_10 : decode cX1_known 10 = .ok (.aload_n 0, 1) := by decide +kernel
theorem dX1_known_11 : decode cX1_known 11 = .ok (.invokevirtual 68, 3) := by decide +kernel
theorem dX1_known_14 : decode cX1_known 14 = .ok (.iconst 0, 1) := by decide +kernel
theorem dX1_known_15 : decode cX1_known 15 = .ok (.istore_n 2, 1) := by decide +kernel
theorem dX1_known_16 : decode cX1_known 16 = .ok (.iconst 0, 1) := by decide +kernel
theorem dX1_known_17 : decode cX1_known 17 = .ok (.istore_n 3, 1) := by decide +kernel
theorem dX1_known_18 : decode cX1_known 18 = .ok (.iload_n 3, 1) := by decide +kernel
theorem dX1_known_19 : decode cX1_known 19 = .ok (.bipush 15, 2) := by decide +kernel
theorem dX1_known_21 : decode cX1_known 21 = .ok (.if_icmp .gt 21, 3) := by decide +kernel
theorem dX1_known_24 : decode cX1_known 24 = .ok (.aload_n 0, 1) := by decide +kernel
theorem dX1_known_25 : decode cX1_known 25 = .ok (.iload_n 1, 1) := by decide +kernel
theorem dX1_known_26 : decode cX1_known 26 = .ok (.iload_n 3, 1) := by decide +kernel
theorem dX1_known_27 : decode cX1_known 27 = .ok (.invokevirtual 47, 3) := by decide +kernel
theorem dX1_known_30 : decode cX1_known 30 = .ok (.ifCond .eq 6, 3) := by decide +kernel
theorem dX1_known_33 : decode cX1_known 33 = .ok (.iinc 2 1, 3) := by decide +kernel
theorem dX1_known_36 : decode cX1_known 36 = .ok (.iinc 3 1, 3) := by decide +kernel
theorem dX1_known_39 : decode cX1_known 39 = .ok (.goto (-21), 3) := by decide +kernel
theorem dX1_known_42 : decode cX1_known 42 = .ok (.iload_n 2, 1) := by decide +kernel
theorem dX1_known_43 : decode cX1_known 43 = .ok (.ireturn, 1) := by decide +kernel
abbrev cX1_firstAbove : ByteArray := prog_3_method_17_code
def yX1_firstAbove : MethodName := ⟨RX1, "firstAbove", "(II)I"⟩
theorem dX1_firstAbove_0 : decode cX1_firstAbove 0 = .ok (.aload_n 0, 1) := by decide +kernel
theorem dX1_firstAbove_1 : decode cX1_firstAbove 1 = .ok (.iload_n 1, 1) := by decide +kernel
theorem dX1_firstAbove_2 : decode cX1_firstAbove 2 = .ok (.invokevirtual 26, 3) := by decide +kernel
theorem dX1_firstAbove_5 : decode cX1_firstAbove 5 = .ok (.ifCond .ne 5, 3) := by decide +kernel
theorem dX1_firstAbove_8 : decode cX1_firstAbove 8 = .ok (.iconst (-1), 1) := by decide +kernel
theorem dX1_firstAbove_9 : decode cX1_firstAbove 9 = .ok (.ireturn, 1) := by decide +kernel
theorem dX1_firstAbove_10 : decode cX1_firstAbove 10 = .ok (.aload_n 0, 1) := by decide +kernel
theorem dX1_firstAbove_11 : decode cX1_firstAbove 11 = .ok (.invokevirtual 68, 3) := by decide +kernel
theorem dX1_firstAbove_14 : decode cX1_firstAbove 14 = .ok (.iconst 0, 1) := by decide +kernel
theorem dX1_firstAbove_15 : decode cX1_firstAbove 15 = .ok (.istore_n 3, 1) := by decide +kernel
theorem dX1_firstAbove_16 : decode cX1_firstAbove 16 = .ok (.iload_n 3, 1) := by decide +kernel
theorem dX1_firstAbove_17 : decode cX1_firstAbove 17 = .ok (.bipush 15, 2) := by decide +kernel
theorem dX1_firstAbove_19 : decode cX1_firstAbove 19 = .ok (.if_icmp .gt 30, 3) := by decide +kernel
theorem dX1_firstAbove_22 : decode cX1_firstAbove 22 = .ok (.aload_n 0, 1) := by decide +kernel
theorem dX1_firstAbove_23 : decode cX1_firstAbove 23 = .ok (.iload_n 1, 1) := by decide +kernel
theorem dX1_firstAbove_24 : decode cX1_firstAbove 24 = .ok (.iload_n 3, 1) := by decide +kernel
theorem dX1_firstAbove_25 : decode cX1_firstAbove 25 = .ok (.invokevirtual 47, 3) := by decide +kernel
theorem dX1_firstAbove_28 : decode cX1_firstAbove 28 = .ok (.ifCond .eq 15, 3) := by decide +kernel
theorem dX1_firstAbove_31 : decode cX1_firstAbove 31 = .ok (.aload_n 0, 1) := by decide +kernel
theorem dX1_firstAbove_32 : decode cX1_firstAbove 32 = .ok (.iload_n 1, 1) := by decide +kernel
theorem dX1_firstAbove_33 : decode cX1_firstAbove 33 = .ok (.iload_n 3, 1) := by decide +kernel
theorem dX1_firstAbove_34 : decode cX1_firstAbove 34 = .ok (.invokevirtual 43, 3) := by decide +kernel
theorem dX1_firstAbove_37 : decode cX1_firstAbove 37 = .ok (.iload_n 2, 1) := by decide +kernel
theorem dX1_firstAbove_38 : decode cX1_firstAbove 38 = .ok (.if_icmp .le 5, 3) := by decide +kernel
theorem dX1_firstAbove_41 : decode cX1_firstAbove 41 = .ok (.iload_n 3, 1) := by decide +kernel
theorem dX1_firstAbove_42 : decode cX1_firstAbove 42 = .ok (.ireturn, 1) := by decide +kernel
theorem dX1_firstAbove_43 : decode cX1_firstAbove 43 = .ok (.iinc 3 1, 3) := by decide +kernel
theorem dX1_firstAbove_46 : decode cX1_firstAbove 46 = .ok (.goto (-30), 3) := by decide +kernel
theorem dX1_firstAbove_49 : decode cX1_firstAbove 49 = .ok (.bipush (-2), 2) := by decide +kernel
theorem dX1_firstAbove_51 : decode cX1_firstAbove 51 = .ok (.ireturn, 1) := by decide +kernel
abbrev cX1_agree : ByteArray := prog_3_method_18_code
def yX1_agree : MethodName := ⟨RX1, "agree", "(II)I"⟩
theorem dX1_agree_0 : decode cX1_agree 0 = .ok (.aload_n 0, 1) := by decide +kernel
theorem dX1_agree_1 : decode cX1_agree 1 = .ok (.iload_n 1, 1) := by decide +kernel
theorem dX1_agree_2 : decode cX1_agree 2 = .ok (.invokevirtual 26, 3) := by decide +kernel
theorem dX1_agree_5 : decode cX1_agree 5 = .ok (.ifCond .eq 11, 3) := by decide +kernel
theorem dX1_agree_8 : decode cX1_agree 8 = .ok (.aload_n 0, 1) := by decide +kernel
theorem dX1_agree_9 : decode cX1_agree 9 = .ok (.iload_n 2, 1) := by decide +kernel
theorem dX1_agree_10 : decode cX1_agree 10 = .ok (.invokevirtual 26, 3) := by decide +kernel
theorem dX1_agree_13 : decode cX1_agree 13 = .ok (.ifCond .ne 5, 3) := by decide +kernel
theorem dX1_agree_16 : decode cX1_agree 16 = .ok (.iconst (-1), 1) := by decide +kernel
theorem dX1_agree_17 : decode cX1_agree 17 = .ok (.ireturn, 1) := by decide +kernel
theorem dX1_agree_18 : decode cX1_agree 18 = .ok (.aload_n 0, 1) := by decide +kernel
theorem dX1_agree_19 : decode cX1_agree 19 = .ok (.invokevirtual 68, 3) := by decide +kernel
theorem dX1_agree_22 : decode cX1_agree 22 = .ok (.iconst 0, 1) := by decide +kernel
theorem dX1_agree_23 : decode cX1_agree 23 = .ok (.istore_n 3, 1) := by decide +kernel
theorem dX1_agree_24 : decode cX1_agree 24 = .ok (.iconst 0, 1) := by decide +kernel
theorem dX1_agree_25 : decode cX1_agree 25 = .ok (.istore 4, 2) := by decide +kernel
theorem dX1_agree_27 : decode cX1_agree 27 = .ok (.iload 4, 2) := by decide +kernel
theorem dX1_agree_29 : decode cX1_agree 29 = .ok (.bipush 15, 2) := by decide +kernel
theorem dX1_agree_31 : decode cX1_agree 31 = .ok (.if_icmp .gt 49, 3) := by decide +kernel
theorem dX1_agree_34 : decode cX1_agree 34 = .ok (.aload_n 0, 1) := by decide +kernel
theorem dX1_agree_35 : decode cX1_agree 35 = .ok (.iload_n 1, 1) := by decide +kernel
theorem dX1_agree_36 : decode cX1_agree 36 = .ok (.iload 4, 2) := by decide +kernel
theorem dX1_agree_38 : decode cX1_agree 38 = .ok (.invokevirtual 47, 3) := by decide +kernel
theorem dX1_agree_41 : decode cX1_agree 41 = .ok (.ifCond .eq 33, 3) := by decide +kernel
theorem dX1_agree_44 : decode cX1_agree 44 = .ok (.aload_n 0, 1) := by decide +kernel
theorem dX1_agree_45 : decode cX1_agree 45 = .ok (.iload_n 2, 1) := by decide +kernel
theorem dX1_agree_46 : decode cX1_agree 46 = .ok (.iload 4, 2) := by decide +kernel
theorem dX1_agree_48 : decode cX1_agree 48 = .ok (.invokevirtual 47, 3) := by decide +kernel
theorem dX1_agree_51 : decode cX1_agree 51 = .ok (.ifCond .eq 23, 3) := by decide +kernel
theorem dX1_agree_54 : decode cX1_agree 54 = .ok (.aload_n 0, 1) := by decide +kernel
theorem dX1_agree_55 : decode cX1_agree 55 = .ok (.iload_n 1, 1) := by decide +kernel
theorem dX1_agree_56 : decode cX1_agree 56 = .ok (.iload 4, 2) := by decide +kernel
theorem dX1_agree_58 : decode cX1_agree 58 = .ok (.invokevirtual 43, 3) := by decide +kernel
theorem dX1_agree_61 : decode cX1_agree 61 = .ok (.aload_n 0, 1) := by decide +kernel
theorem dX1_agree_62 : decode cX1_agree 62 = .ok (.iload_n 2, 1) := by decide +kernel
theorem dX1_agree_63 : decode cX1_agree 63 = .ok (.iload 4, 2) := by decide +kernel
theorem dX1_agree_65 : decode cX1_agree 65 = .ok (.invokevirtual 43, 3) := by decide +kernel
theorem dX1_agree_68 : decode cX1_agree 68 = .ok (.if_icmp .ne 6, 3) := by decide +kernel
theorem dX1_agree_71 : decode cX1_agree 71 = .ok (.iinc 3 1, 3) := by decide +kernel
theorem dX1_agree_74 : decode cX1_agree 74 = .ok (.iinc 4 1, 3) := by decide +kernel
theorem dX1_agree_77 : decode cX1_agree 77 = .ok (.goto (-50), 3) := by decide +kernel
theorem dX1_agree_80 : decode cX1_agree 80 = .ok (.iload_n 3, 1) := by decide +kernel
theorem dX1_agree_81 : decode cX1_agree 81 = .ok (.ireturn, 1) := by decide +kernel
abbrev cX1_kind : ByteArray := prog_3_method_19_code
def yX1_kind : MethodName := ⟨RX1, "kind", "(I)I"⟩
theorem dX1_kind_0 : decode cX1_kind 0 = .ok (.aload_n 0, 1) := by decide +kernel
theorem dX1_kind_1 : decode cX1_kind 1 = .ok (.iload_n 1, 1) := by decide +kernel
theorem dX1_kind_2 : decode cX1_kind 2 = .ok (.invokevirtual 26, 3) := by decide +kernel
theorem dX1_kind_5 : decode cX1_kind 5 = .ok (.ifCond .eq 12, 3) := by decide +kernel
theorem dX1_kind_8 : decode cX1_kind 8 = .ok (.aload_n 0, 1) := by decide +kernel
theorem dX1_kind_9 : decode cX1_kind 9 = .ok (.getfield 7, 3) := by decide +kernel
theorem dX1_kind_12 : decode cX1_kind 12 = .ok (.iload_n 1, 1) := by decide +kernel
theorem dX1_kind_13 : decode cX1_kind 13 = .ok (.iaload, 1) := by decide +kernel
theorem dX1_kind_14 : decode cX1_kind 14 = .ok (.goto 4, 3) := by decide +kernel
theorem dX1_kind_17 : decode cX1_kind 17 = .ok (.iconst (-1), 1) := by decide +kernel
theorem dX1_kind_18 : decode cX1_kind 18 = .ok (.ireturn, 1) := by decide +kernel
abbrev cX1_reset : ByteArray := prog_3_method_20_code
def yX1_reset : MethodName := ⟨RX1, "reset", "()V"⟩
theorem dX1_reset_0 : decode cX1_reset 0 = .ok (.iconst 0, 1) := by decide +kernel
theorem dX1_reset_1 : decode cX1_reset 1 = .ok (.istore_n 1, 1) := by decide +kernel
theorem dX1_reset_2 : decode cX1_reset 2 = .ok (.iload_n 1, 1) := by decide +kernel
theorem dX1_reset_3 : decode cX1_reset 3 = .ok (.bipush 6, 2) := by decide +kernel
theorem dX1_reset_5 : decode cX1_reset 5 = .ok (.if_icmp .ge 18, 3) := by decide +kernel
theorem dX1_reset_8 : decode cX1_reset 8 = .ok (.aload_n 0, 1) := by decide +kernel
theorem dX1_reset_9 : decode cX1_reset 9 = .ok (.iload_n 1, 1) := by decide +kernel
theorem dX1_reset_10 : decode cX1_reset 10 = .ok (.iconst 0, 1) := by decide +kernel
theorem dX1_reset_11 : decode cX1_reset 11 = .ok (.iconst 0, 1) := by decide +kernel
theorem dX1_reset_12 : decode cX1_reset 12 = .ok (.iconst 0, 1) := by decide +kernel
theorem dX1_reset_13 : decode cX1_reset 13 = .ok (.invokevirtual 71, 3) := by decide +kernel
theorem dX1_reset_16 : decode cX1_reset 16 = .ok (.pop, 1) := by decide +kernel
theorem dX1_reset_17 : decode cX1_reset 17 = .ok (.iinc 1 1, 3) := by decide +kernel
theorem dX1_reset_20 : decode cX1_reset 20 = .ok (.goto (-18), 3) := by decide +kernel
theorem dX1_reset_23 : decode cX1_reset 23 = .ok (.return_, 1) := by decide +kernel
theorem q30 : (Jvm.Cond.initialized "SelectorGcModel") ∈ lw_all := lw_g (lw_at lw_m1 2 rfl) rfl
theorem q193 : (Jvm.Cond.instantiable "SelectorGcModel" (7 : Nat)) ∈ lw_all := lw_g (lw_at lw_m1 165 rfl) rfl
theorem q195 : (Jvm.Cond.instanceMethod ({ cls := "SelectorGcModel", name := "<init>", desc := "()V" } : Jvm.MethodName)) ∈ lw_all := lw_g (lw_at lw_m1 167 rfl) rfl
theorem q196 : (Jvm.Cond.code ({ cls := "SelectorGcModel", name := "<init>", desc := "()V" } : Jvm.MethodName) prog_3_method_1_code (1 : Nat) (Option.none : Option Jvm.ClassFile.FieldType)) ∈ lw_all := lw_g (lw_at lw_m1 168 rfl) rfl
theorem q197 : (Jvm.Cond.methodLink "SelectorGcModel" (1 : Nat) ({ cls := "java/lang/Object", name := "<init>", desc := "()V" } : Jvm.MethodName)) ∈ lw_all := lw_g (lw_at lw_m1 169 rfl) rfl
theorem q198 : (Jvm.Cond.fieldLink "SelectorGcModel" (7 : Nat) "SelectorGcModel" "kind" "[I") ∈ lw_all := lw_g (lw_at lw_m1 170 rfl) rfl
theorem q199 : (Jvm.Cond.fieldLink "SelectorGcModel" (13 : Nat) "SelectorGcModel" "a" "[I") ∈ lw_all := lw_g (lw_at lw_m1 171 rfl) rfl
theorem q200 : (Jvm.Cond.fieldLink "SelectorGcModel" (16 : Nat) "SelectorGcModel" "b" "[I") ∈ lw_all := lw_g (lw_at lw_m1 172 rfl) rfl
theorem q201 : (Jvm.Cond.fieldLink "SelectorGcModel" (19 : Nat) "SelectorGcModel" "has" "[Z") ∈ lw_all := lw_g (lw_at lw_m1 173 rfl) rfl
theorem q202 : (Jvm.Cond.fieldLink "SelectorGcModel" (23 : Nat) "SelectorGcModel" "value" "[I") ∈ lw_all := lw_g (lw_at lw_m1 174 rfl) rfl
theorem q203 : (Jvm.Cond.fieldLink "SelectorGcModel" (36 : Nat) "SelectorGcModel" "placeA" "I") ∈ lw_all := lw_g (lw_at lw_m1 175 rfl) rfl
theorem q204 : (Jvm.Cond.fieldLink "SelectorGcModel" (40 : Nat) "SelectorGcModel" "placeB" "I") ∈ lw_all := lw_g (lw_at lw_m1 176 rfl) rfl
theorem q205 : (Jvm.Cond.lays "SelectorGcModel" "SelectorGcModel" "kind" "[I") ∈ lw_all := lw_g (lw_at lw_m1 177 rfl) rfl
theorem q206 : (Jvm.Cond.soleField "SelectorGcModel" "kind") ∈ lw_all := lw_g (lw_at lw_m1 178 rfl) rfl
theorem q207 : (Jvm.Cond.lays "SelectorGcModel" "SelectorGcModel" "a" "[I") ∈ lw_all := lw_g (lw_at lw_m1 179 rfl) rfl
theorem q208 : (Jvm.Cond.soleField "SelectorGcModel" "a") ∈ lw_all := lw_g (lw_at lw_m1 180 rfl) rfl
theorem q209 : (Jvm.Cond.lays "SelectorGcModel" "SelectorGcModel" "b" "[I") ∈ lw_all := lw_g (lw_at lw_m1 181 rfl) rfl
theorem q210 : (Jvm.Cond.soleField "SelectorGcModel" "b") ∈ lw_all := lw_g (lw_at lw_m1 182 rfl) rfl
theorem q211 : (Jvm.Cond.lays "SelectorGcModel" "SelectorGcModel" "has" "[Z") ∈ lw_all := lw_g (lw_at lw_m1 183 rfl) rfl
theorem q212 : (Jvm.Cond.soleField "SelectorGcModel" "has") ∈ lw_all := lw_g (lw_at lw_m1 184 rfl) rfl
theorem q213 : (Jvm.Cond.lays "SelectorGcModel" "SelectorGcModel" "value" "[I") ∈ lw_all := lw_g (lw_at lw_m1 185 rfl) rfl
theorem q214 : (Jvm.Cond.soleField "SelectorGcModel" "value") ∈ lw_all := lw_g (lw_at lw_m1 186 rfl) rfl
theorem q215 : (Jvm.Cond.lays "SelectorGcModel" "SelectorGcModel" "placeA" "I") ∈ lw_all := lw_g (lw_at lw_m1 187 rfl) rfl
theorem q216 : (Jvm.Cond.soleField "SelectorGcModel" "placeA") ∈ lw_all := lw_g (lw_at lw_m1 188 rfl) rfl
theorem q217 : (Jvm.Cond.lays "SelectorGcModel" "SelectorGcModel" "placeB" "I") ∈ lw_all := lw_g (lw_at lw_m1 189 rfl) rfl
theorem q218 : (Jvm.Cond.soleField "SelectorGcModel" "placeB") ∈ lw_all := lw_g (lw_at lw_m1 190 rfl) rfl
theorem q219 : (Jvm.Cond.superclass "SelectorGcModel" "java/lang/Object") ∈ lw_all := lw_g (lw_at lw_m1 191 rfl) rfl
theorem q221 : (Jvm.Cond.instanceMethod ({ cls := "SelectorGcModel", name := "define", desc := "(IIII)Z" } : Jvm.MethodName)) ∈ lw_all := lw_g (lw_at lw_m1 193 rfl) rfl
theorem q222 : (Jvm.Cond.selects "SelectorGcModel" ({ cls := "SelectorGcModel", name := "define", desc := "(IIII)Z" } : Jvm.MethodName) ({ cls := "SelectorGcModel", name := "define", desc := "(IIII)Z" } : Jvm.MethodName)) ∈ lw_all := lw_g (lw_at lw_m1 194 rfl) rfl
theorem q223 : (Jvm.Cond.code ({ cls := "SelectorGcModel", name := "define", desc := "(IIII)Z" } : Jvm.MethodName) prog_3_method_5_code (5 : Nat) (Option.some Jvm.ClassFile.FieldType.boolean)) ∈ lw_all := lw_g (lw_at lw_m1 195 rfl) rfl
theorem q224 : (Jvm.Cond.methodLink "SelectorGcModel" (26 : Nat) ({ cls := "SelectorGcModel", name := "isSequence", desc := "(I)Z" } : Jvm.MethodName)) ∈ lw_all := lw_g (lw_at lw_m1 196 rfl) rfl
theorem q225 : (Jvm.Cond.privateMethod ({ cls := "SelectorGcModel", name := "isSequence", desc := "(I)Z" } : Jvm.MethodName)) ∈ lw_tbl := lw_at lw_m1 197 rfl
theorem q226 : (Jvm.Cond.instanceMethod ({ cls := "SelectorGcModel", name := "isSequence", desc := "(I)Z" } : Jvm.MethodName)) ∈ lw_all := lw_g (lw_at lw_m1 198 rfl) rfl
theorem q227 : (Jvm.Cond.code ({ cls := "SelectorGcModel", name := "isSequence", desc := "(I)Z" } : Jvm.MethodName) prog_3_method_2_code (2 : Nat) (Option.some Jvm.ClassFile.FieldType.boolean)) ∈ lw_all := lw_g (lw_at lw_m1 199 rfl) rfl
theorem q228 : (Jvm.Cond.methodLink "SelectorGcModel" (30 : Nat) ({ cls := "SelectorGcModel", name := "namesA", desc := "(I)Z" } : Jvm.MethodName)) ∈ lw_all := lw_g (lw_at lw_m1 200 rfl) rfl
theorem q229 : (Jvm.Cond.privateMethod ({ cls := "SelectorGcModel", name := "namesA", desc := "(I)Z" } : Jvm.MethodName)) ∈ lw_tbl := lw_at lw_m1 201 rfl
theorem q230 : (Jvm.Cond.instanceMethod ({ cls := "SelectorGcModel", name := "namesA", desc := "(I)Z" } : Jvm.MethodName)) ∈ lw_all := lw_g (lw_at lw_m1 202 rfl) rfl
theorem q231 : (Jvm.Cond.code ({ cls := "SelectorGcModel", name := "namesA", desc := "(I)Z" } : Jvm.MethodName) prog_3_method_3_code (2 : Nat) (Option.some Jvm.ClassFile.FieldType.boolean)) ∈ lw_all := lw_g (lw_at lw_m1 203 rfl) rfl
theorem q232 : (Jvm.Cond.methodLink "SelectorGcModel" (33 : Nat) ({ cls := "SelectorGcModel", name := "namesB", desc := "(I)Z" } : Jvm.MethodName)) ∈ lw_all := lw_g (lw_at lw_m1 204 rfl) rfl
theorem q233 : (Jvm.Cond.privateMethod ({ cls := "SelectorGcModel", name := "namesB", desc := "(I)Z" } : Jvm.MethodName)) ∈ lw_tbl := lw_at lw_m1 205 rfl
theorem q234 : (Jvm.Cond.instanceMethod ({ cls := "SelectorGcModel", name := "namesB", desc := "(I)Z" } : Jvm.MethodName)) ∈ lw_all := lw_g (lw_at lw_m1 206 rfl) rfl
theorem q235 : (Jvm.Cond.code ({ cls := "SelectorGcModel", name := "namesB", desc := "(I)Z" } : Jvm.MethodName) prog_3_method_4_code (2 : Nat) (Option.some Jvm.ClassFile.FieldType.boolean)) ∈ lw_all := lw_g (lw_at lw_m1 207 rfl) rfl
theorem q237 : (Jvm.Cond.instanceMethod ({ cls := "SelectorGcModel", name := "ready", desc := "(II)Z" } : Jvm.MethodName)) ∈ lw_all := lw_g (lw_at lw_m1 209 rfl) rfl
theorem q238 : (Jvm.Cond.selects "SelectorGcModel" ({ cls := "SelectorGcModel", name := "ready", desc := "(II)Z" } : Jvm.MethodName) ({ cls := "SelectorGcModel", name := "ready", desc := "(II)Z" } : Jvm.MethodName)) ∈ lw_all := lw_g (lw_at lw_m1 210 rfl) rfl
theorem q239 : (Jvm.Cond.code ({ cls := "SelectorGcModel", name := "ready", desc := "(II)Z" } : Jvm.MethodName) prog_3_method_14_code (3 : Nat) (Option.some Jvm.ClassFile.FieldType.boolean)) ∈ lw_all := lw_g (lw_at lw_m1 211 rfl) rfl
theorem q240 : (Jvm.Cond.methodLink "SelectorGcModel" (65 : Nat) ({ cls := "SelectorGcModel", name := "asked", desc := "(II)Z" } : Jvm.MethodName)) ∈ lw_all := lw_g (lw_at lw_m1 212 rfl) rfl
theorem q241 : (Jvm.Cond.privateMethod ({ cls := "SelectorGcModel", name := "asked", desc := "(II)Z" } : Jvm.MethodName)) ∈ lw_tbl := lw_at lw_m1 213 rfl
theorem q242 : (Jvm.Cond.instanceMethod ({ cls := "SelectorGcModel", name := "asked", desc := "(II)Z" } : Jvm.MethodName)) ∈ lw_all := lw_g (lw_at lw_m1 214 rfl) rfl
theorem q243 : (Jvm.Cond.code ({ cls := "SelectorGcModel", name := "asked", desc := "(II)Z" } : Jvm.MethodName) prog_3_method_13_code (3 : Nat) (Option.some Jvm.ClassFile.FieldType.boolean)) ∈ lw_all := lw_g (lw_at lw_m1 215 rfl) rfl
theorem q244 : (Jvm.Cond.methodLink "SelectorGcModel" (68 : Nat) ({ cls := "SelectorGcModel", name := "fill", desc := "()V" } : Jvm.MethodName)) ∈ lw_all := lw_g (lw_at lw_m1 216 rfl) rfl
theorem q245 : (Jvm.Cond.privateMethod ({ cls := "SelectorGcModel", name := "fill", desc := "()V" } : Jvm.MethodName)) ∈ lw_tbl := lw_at lw_m1 217 rfl
theorem q246 : (Jvm.Cond.instanceMethod ({ cls := "SelectorGcModel", name := "fill", desc := "()V" } : Jvm.MethodName)) ∈ lw_all := lw_g (lw_at lw_m1 218 rfl) rfl
theorem q247 : (Jvm.Cond.code ({ cls := "SelectorGcModel", name := "fill", desc := "()V" } : Jvm.MethodName) prog_3_method_12_code (3 : Nat) (Option.none : Option Jvm.ClassFile.FieldType)) ∈ lw_all := lw_g (lw_at lw_m1 219 rfl) rfl
theorem q248 : (Jvm.Cond.methodLink "SelectorGcModel" (61 : Nat) ({ cls := "SelectorGcModel", name := "sweep", desc := "()Z" } : Jvm.MethodName)) ∈ lw_all := lw_g (lw_at lw_m1 220 rfl) rfl
theorem q249 : (Jvm.Cond.privateMethod ({ cls := "SelectorGcModel", name := "sweep", desc := "()Z" } : Jvm.MethodName)) ∈ lw_tbl := lw_at lw_m1 221 rfl
theorem q250 : (Jvm.Cond.instanceMethod ({ cls := "SelectorGcModel", name := "sweep", desc := "()Z" } : Jvm.MethodName)) ∈ lw_all := lw_g (lw_at lw_m1 222 rfl) rfl
theorem q251 : (Jvm.Cond.code ({ cls := "SelectorGcModel", name := "sweep", desc := "()Z" } : Jvm.MethodName) prog_3_method_11_code (4 : Nat) (Option.some Jvm.ClassFile.FieldType.boolean)) ∈ lw_all := lw_g (lw_at lw_m1 223 rfl) rfl
theorem q252 : (Jvm.Cond.methodLink "SelectorGcModel" (55 : Nat) ({ cls := "SelectorGcModel", name := "needsMet", desc := "(II)Z" } : Jvm.MethodName)) ∈ lw_all := lw_g (lw_at lw_m1 224 rfl) rfl
theorem q253 : (Jvm.Cond.privateMethod ({ cls := "SelectorGcModel", name := "needsMet", desc := "(II)Z" } : Jvm.MethodName)) ∈ lw_tbl := lw_at lw_m1 225 rfl
theorem q254 : (Jvm.Cond.instanceMethod ({ cls := "SelectorGcModel", name := "needsMet", desc := "(II)Z" } : Jvm.MethodName)) ∈ lw_all := lw_g (lw_at lw_m1 226 rfl) rfl
theorem q255 : (Jvm.Cond.code ({ cls := "SelectorGcModel", name := "needsMet", desc := "(II)Z" } : Jvm.MethodName) prog_3_method_9_code (3 : Nat) (Option.some Jvm.ClassFile.FieldType.boolean)) ∈ lw_all := lw_g (lw_at lw_m1 227 rfl) rfl
theorem q256 : (Jvm.Cond.methodLink "SelectorGcModel" (47 : Nat) ({ cls := "SelectorGcModel", name := "hasAt", desc := "(II)Z" } : Jvm.MethodName)) ∈ lw_all := lw_g (lw_at lw_m1 228 rfl) rfl
theorem q257 : (Jvm.Cond.privateMethod ({ cls := "SelectorGcModel", name := "hasAt", desc := "(II)Z" } : Jvm.MethodName)) ∈ lw_tbl := lw_at lw_m1 229 rfl
theorem q258 : (Jvm.Cond.instanceMethod ({ cls := "SelectorGcModel", name := "hasAt", desc := "(II)Z" } : Jvm.MethodName)) ∈ lw_all := lw_g (lw_at lw_m1 230 rfl) rfl
theorem q259 : (Jvm.Cond.code ({ cls := "SelectorGcModel", name := "hasAt", desc := "(II)Z" } : Jvm.MethodName) prog_3_method_6_code (3 : Nat) (Option.some Jvm.ClassFile.FieldType.boolean)) ∈ lw_all := lw_g (lw_at lw_m1 231 rfl) rfl
theorem q260 : (Jvm.Cond.methodLink "SelectorGcModel" (51 : Nat) ({ cls := "SelectorGcModel", name := "walk", desc := "(II)V" } : Jvm.MethodName)) ∈ lw_all := lw_g (lw_at lw_m1 232 rfl) rfl
theorem q261 : (Jvm.Cond.privateMethod ({ cls := "SelectorGcModel", name := "walk", desc := "(II)V" } : Jvm.MethodName)) ∈ lw_tbl := lw_at lw_m1 233 rfl
theorem q262 : (Jvm.Cond.instanceMethod ({ cls := "SelectorGcModel", name := "walk", desc := "(II)V" } : Jvm.MethodName)) ∈ lw_all := lw_g (lw_at lw_m1 234 rfl) rfl
theorem q263 : (Jvm.Cond.code ({ cls := "SelectorGcModel", name := "walk", desc := "(II)V" } : Jvm.MethodName) prog_3_method_8_code (6 : Nat) (Option.none : Option Jvm.ClassFile.FieldType)) ∈ lw_all := lw_g (lw_at lw_m1 235 rfl) rfl
theorem q264 : (Jvm.Cond.methodLink "SelectorGcModel" (43 : Nat) ({ cls := "SelectorGcModel", name := "at", desc := "(II)I" } : Jvm.MethodName)) ∈ lw_all := lw_g (lw_at lw_m1 236 rfl) rfl
theorem q265 : (Jvm.Cond.privateMethod ({ cls := "SelectorGcModel", name := "at", desc := "(II)I" } : Jvm.MethodName)) ∈ lw_tbl := lw_at lw_m1 237 rfl
theorem q266 : (Jvm.Cond.instanceMethod ({ cls := "SelectorGcModel", name := "at", desc := "(II)I" } : Jvm.MethodName)) ∈ lw_all := lw_g (lw_at lw_m1 238 rfl) rfl
theorem q267 : (Jvm.Cond.code ({ cls := "SelectorGcModel", name := "at", desc := "(II)I" } : Jvm.MethodName) prog_3_method_7_code (3 : Nat) (Option.some Jvm.ClassFile.FieldType.int)) ∈ lw_all := lw_g (lw_at lw_m1 239 rfl) rfl
theorem q268 : (Jvm.Cond.methodLink "SelectorGcModel" (58 : Nat) ({ cls := "SelectorGcModel", name := "worth", desc := "(II)I" } : Jvm.MethodName)) ∈ lw_all := lw_g (lw_at lw_m2 0 rfl) rfl
theorem q269 : (Jvm.Cond.privateMethod ({ cls := "SelectorGcModel", name := "worth", desc := "(II)I" } : Jvm.MethodName)) ∈ lw_tbl := lw_at lw_m2 1 rfl
theorem q270 : (Jvm.Cond.instanceMethod ({ cls := "SelectorGcModel", name := "worth", desc := "(II)I" } : Jvm.MethodName)) ∈ lw_all := lw_g (lw_at lw_m2 2 rfl) rfl
theorem q271 : (Jvm.Cond.code ({ cls := "SelectorGcModel", name := "worth", desc := "(II)I" } : Jvm.MethodName) prog_3_method_10_code (5 : Nat) (Option.some Jvm.ClassFile.FieldType.int)) ∈ lw_all := lw_g (lw_at lw_m2 3 rfl) rfl
theorem q273 : (Jvm.Cond.instanceMethod ({ cls := "SelectorGcModel", name := "element", desc := "(II)I" } : Jvm.MethodName)) ∈ lw_all := lw_g (lw_at lw_m2 5 rfl) rfl
theorem q274 : (Jvm.Cond.selects "SelectorGcModel" ({ cls := "SelectorGcModel", name := "element", desc := "(II)I" } : Jvm.MethodName) ({ cls := "SelectorGcModel", name := "element", desc := "(II)I" } : Jvm.MethodName)) ∈ lw_all := lw_g (lw_at lw_m2 6 rfl) rfl
theorem q275 : (Jvm.Cond.code ({ cls := "SelectorGcModel", name := "element", desc := "(II)I" } : Jvm.MethodName) prog_3_method_15_code (3 : Nat) (Option.some Jvm.ClassFile.FieldType.int)) ∈ lw_all := lw_g (lw_at lw_m2 7 rfl) rfl
theorem q277 : (Jvm.Cond.instanceMethod ({ cls := "SelectorGcModel", name := "known", desc := "(I)I" } : Jvm.MethodName)) ∈ lw_all := lw_g (lw_at lw_m2 9 rfl) rfl
theorem q278 : (Jvm.Cond.selects "SelectorGcModel" ({ cls := "SelectorGcModel", name := "known", desc := "(I)I" } : Jvm.MethodName) ({ cls := "SelectorGcModel", name := "known", desc := "(I)I" } : Jvm.MethodName)) ∈ lw_all := lw_g (lw_at lw_m2 10 rfl) rfl
theorem q279 : (Jvm.Cond.code ({ cls := "SelectorGcModel", name := "known", desc := "(I)I" } : Jvm.MethodName) prog_3_method_16_code (4 : Nat) (Option.some Jvm.ClassFile.FieldType.int)) ∈ lw_all := lw_g (lw_at lw_m2 11 rfl) rfl
theorem q281 : (Jvm.Cond.instanceMethod ({ cls := "SelectorGcModel", name := "firstAbove", desc := "(II)I" } : Jvm.MethodName)) ∈ lw_all := lw_g (lw_at lw_m2 13 rfl) rfl
theorem q282 : (Jvm.Cond.selects "SelectorGcModel" ({ cls := "SelectorGcModel", name := "firstAbove", desc := "(II)I" } : Jvm.MethodName) ({ cls := "SelectorGcModel", name := "firstAbove", desc := "(II)I" } : Jvm.MethodName)) ∈ lw_all := lw_g (lw_at lw_m2 14 rfl) rfl
theorem q283 : (Jvm.Cond.code ({ cls := "SelectorGcModel", name := "firstAbove", desc := "(II)I" } : Jvm.MethodName) prog_3_method_17_code (4 : Nat) (Option.some Jvm.ClassFile.FieldType.int)) ∈ lw_all := lw_g (lw_at lw_m2 15 rfl) rfl
theorem q285 : (Jvm.Cond.instanceMethod ({ cls := "SelectorGcModel", name := "agree", desc := "(II)I" } : Jvm.MethodName)) ∈ lw_all := lw_g (lw_at lw_m2 17 rfl) rfl
theorem q286 : (Jvm.Cond.selects "SelectorGcModel" ({ cls := "SelectorGcModel", name := "agree", desc := "(II)I" } : Jvm.MethodName) ({ cls := "SelectorGcModel", name := "agree", desc := "(II)I" } : Jvm.MethodName)) ∈ lw_all := lw_g (lw_at lw_m2 18 rfl) rfl
theorem q287 : (Jvm.Cond.code ({ cls := "SelectorGcModel", name := "agree", desc := "(II)I" } : Jvm.MethodName) prog_3_method_18_code (5 : Nat) (Option.some Jvm.ClassFile.FieldType.int)) ∈ lw_all := lw_g (lw_at lw_m2 19 rfl) rfl
theorem q289 : (Jvm.Cond.instanceMethod ({ cls := "SelectorGcModel", name := "kind", desc := "(I)I" } : Jvm.MethodName)) ∈ lw_all := lw_g (lw_at lw_m2 21 rfl) rfl
theorem q290 : (Jvm.Cond.selects "SelectorGcModel" ({ cls := "SelectorGcModel", name := "kind", desc := "(I)I" } : Jvm.MethodName) ({ cls := "SelectorGcModel", name := "kind", desc := "(I)I" } : Jvm.MethodName)) ∈ lw_all := lw_g (lw_at lw_m2 22 rfl) rfl
theorem q291 : (Jvm.Cond.code ({ cls := "SelectorGcModel", name := "kind", desc := "(I)I" } : Jvm.MethodName) prog_3_method_19_code (2 : Nat) (Option.some Jvm.ClassFile.FieldType.int)) ∈ lw_all := lw_g (lw_at lw_m2 23 rfl) rfl
theorem q293 : (Jvm.Cond.instanceMethod ({ cls := "SelectorGcModel", name := "reset", desc := "()V" } : Jvm.MethodName)) ∈ lw_all := lw_g (lw_at lw_m2 25 rfl) rfl
theorem q294 : (Jvm.Cond.selects "SelectorGcModel" ({ cls := "SelectorGcModel", name := "reset", desc := "()V" } : Jvm.MethodName) ({ cls := "SelectorGcModel", name := "reset", desc := "()V" } : Jvm.MethodName)) ∈ lw_all := lw_g (lw_at lw_m2 26 rfl) rfl
theorem q295 : (Jvm.Cond.code ({ cls := "SelectorGcModel", name := "reset", desc := "()V" } : Jvm.MethodName) prog_3_method_20_code (2 : Nat) (Option.none : Option Jvm.ClassFile.FieldType)) ∈ lw_all := lw_g (lw_at lw_m2 27 rfl) rfl
theorem q296 : (Jvm.Cond.methodLink "SelectorGcModel" (71 : Nat) ({ cls := "SelectorGcModel", name := "define", desc := "(IIII)Z" } : Jvm.MethodName)) ∈ lw_all := lw_g (lw_at lw_m2 28 rfl) rfl
theorem in_X1 : ∀ w ∈ wsX10, w ∈ lw_all := lw_in wsX10 [205, 207, 209, 211, 213, 215, 217] (by decide +kernel) (by decide +kernel)
end
section
/-! java/lang/Object -/
set_option maxRecDepth 100000
def RJ0 : String := "java/lang/Object"
abbrev cJ0_init : ByteArray := object_method_1_code
def yJ0_init : MethodName := ⟨RJ0, "<init>", "()V"⟩
theorem dJ0_init_0 : decode cJ0_init 0 = .ok (.return_, 1) := by decide +kernel
theorem q37 : (Jvm.Cond.instanceMethod ({ cls := "java/lang/Object", name := "<init>", desc := "()V" } : Jvm.MethodName)) ∈ lw_all := lw_g (lw_at lw_m1 9 rfl) rfl
theorem q38 : (Jvm.Cond.code ({ cls := "java/lang/Object", name := "<init>", desc := "()V" } : Jvm.MethodName) object_method_1_code (1 : Nat) (Option.none : Option Jvm.ClassFile.FieldType)) ∈ lw_all := lw_g (lw_at lw_m1 10 rfl) rfl

theorem q28 : (Jvm.Cond.initialized "SelectorGcLaw") ∈ lw_all := lw_g (lw_at lw_m1 0 rfl) rfl
set_option maxRecDepth 100000
theorem q31 : (Jvm.Cond.classLink "SelectorGcLaw" (7 : Nat) "SelectorGc") ∈ lw_all := lw_g (lw_at lw_m1 3 rfl) rfl
theorem q33 : (Jvm.Cond.methodLink "SelectorGcLaw" (9 : Nat) ({ cls := "SelectorGc", name := "<init>", desc := "()V" } : Jvm.MethodName)) ∈ lw_all := lw_g (lw_at lw_m1 5 rfl) rfl
theorem q92 : (Jvm.Cond.methodLink "SelectorGcLaw" (13 : Nat) ({ cls := "SelectorGc", name := "define", desc := "(IIII)Z" } : Jvm.MethodName)) ∈ lw_all := lw_g (lw_at lw_m1 64 rfl) rfl
theorem q108 : (Jvm.Cond.methodLink "SelectorGcLaw" (18 : Nat) ({ cls := "SelectorGc", name := "ready", desc := "(II)Z" } : Jvm.MethodName)) ∈ lw_all := lw_g (lw_at lw_m1 80 rfl) rfl
theorem q168 : (Jvm.Cond.methodLink "SelectorGcLaw" (23 : Nat) ({ cls := "SelectorGc", name := "element", desc := "(II)I" } : Jvm.MethodName)) ∈ lw_all := lw_g (lw_at lw_m1 140 rfl) rfl
theorem q172 : (Jvm.Cond.methodLink "SelectorGcLaw" (28 : Nat) ({ cls := "SelectorGc", name := "known", desc := "(I)I" } : Jvm.MethodName)) ∈ lw_all := lw_g (lw_at lw_m1 144 rfl) rfl
theorem q176 : (Jvm.Cond.methodLink "SelectorGcLaw" (33 : Nat) ({ cls := "SelectorGc", name := "firstAbove", desc := "(II)I" } : Jvm.MethodName)) ∈ lw_all := lw_g (lw_at lw_m1 148 rfl) rfl
theorem q180 : (Jvm.Cond.methodLink "SelectorGcLaw" (37 : Nat) ({ cls := "SelectorGc", name := "agree", desc := "(II)I" } : Jvm.MethodName)) ∈ lw_all := lw_g (lw_at lw_m1 152 rfl) rfl
theorem q184 : (Jvm.Cond.methodLink "SelectorGcLaw" (41 : Nat) ({ cls := "SelectorGc", name := "kind", desc := "(I)I" } : Jvm.MethodName)) ∈ lw_all := lw_g (lw_at lw_m1 156 rfl) rfl
theorem q188 : (Jvm.Cond.methodLink "SelectorGcLaw" (45 : Nat) ({ cls := "SelectorGc", name := "reset", desc := "()V" } : Jvm.MethodName)) ∈ lw_all := lw_g (lw_at lw_m1 160 rfl) rfl
theorem q192 : (Jvm.Cond.classLink "SelectorGcLaw" (10 : Nat) "SelectorGcModel") ∈ lw_all := lw_g (lw_at lw_m1 164 rfl) rfl
theorem q194 : (Jvm.Cond.methodLink "SelectorGcLaw" (12 : Nat) ({ cls := "SelectorGcModel", name := "<init>", desc := "()V" } : Jvm.MethodName)) ∈ lw_all := lw_g (lw_at lw_m1 166 rfl) rfl
theorem q220 : (Jvm.Cond.methodLink "SelectorGcLaw" (17 : Nat) ({ cls := "SelectorGcModel", name := "define", desc := "(IIII)Z" } : Jvm.MethodName)) ∈ lw_all := lw_g (lw_at lw_m1 192 rfl) rfl
theorem q236 : (Jvm.Cond.methodLink "SelectorGcLaw" (22 : Nat) ({ cls := "SelectorGcModel", name := "ready", desc := "(II)Z" } : Jvm.MethodName)) ∈ lw_all := lw_g (lw_at lw_m1 208 rfl) rfl
theorem q272 : (Jvm.Cond.methodLink "SelectorGcLaw" (27 : Nat) ({ cls := "SelectorGcModel", name := "element", desc := "(II)I" } : Jvm.MethodName)) ∈ lw_all := lw_g (lw_at lw_m2 4 rfl) rfl
theorem q276 : (Jvm.Cond.methodLink "SelectorGcLaw" (32 : Nat) ({ cls := "SelectorGcModel", name := "known", desc := "(I)I" } : Jvm.MethodName)) ∈ lw_all := lw_g (lw_at lw_m2 8 rfl) rfl
theorem q280 : (Jvm.Cond.methodLink "SelectorGcLaw" (36 : Nat) ({ cls := "SelectorGcModel", name := "firstAbove", desc := "(II)I" } : Jvm.MethodName)) ∈ lw_all := lw_g (lw_at lw_m2 12 rfl) rfl
theorem q284 : (Jvm.Cond.methodLink "SelectorGcLaw" (40 : Nat) ({ cls := "SelectorGcModel", name := "agree", desc := "(II)I" } : Jvm.MethodName)) ∈ lw_all := lw_g (lw_at lw_m2 16 rfl) rfl
theorem q288 : (Jvm.Cond.methodLink "SelectorGcLaw" (44 : Nat) ({ cls := "SelectorGcModel", name := "kind", desc := "(I)I" } : Jvm.MethodName)) ∈ lw_all := lw_g (lw_at lw_m2 20 rfl) rfl
theorem q292 : (Jvm.Cond.methodLink "SelectorGcLaw" (48 : Nat) ({ cls := "SelectorGcModel", name := "reset", desc := "()V" } : Jvm.MethodName)) ∈ lw_all := lw_g (lw_at lw_m2 24 rfl) rfl

theorem q88 : (Jvm.Cond.arrayClass Jvm.ClassFile.FieldType.byte) ∈ lw_all := lw_g (lw_at lw_m1 60 rfl) rfl
set_option maxRecDepth 100000
theorem q89 : (Jvm.Cond.arrayClass Jvm.ClassFile.FieldType.int) ∈ lw_all := lw_g (lw_at lw_m1 61 rfl) rfl
theorem q90 : (Jvm.Cond.arrayClass Jvm.ClassFile.FieldType.short) ∈ lw_all := lw_g (lw_at lw_m1 62 rfl) rfl
theorem q91 : (Jvm.Cond.arrayClass Jvm.ClassFile.FieldType.boolean) ∈ lw_all := lw_g (lw_at lw_m1 63 rfl) rfl

/-! the law's own entry -/
set_option maxRecDepth 100000
abbrev cL_law : ByteArray := code
theorem dL_law_0 : decode cL_law 0 = .ok (.new 7, 3) := by decide +kernel
theorem dL_law_3 : decode cL_law 3 = .ok (.dup, 1) := by decide +kernel
theorem dL_law_4 : decode cL_law 4 = .ok (.invokespecial 9, 3) := by decide +kernel
theorem dL_law_7 : decode cL_law 7 = .ok (.astore_n 1, 1) := by decide +kernel
theorem dL_law_8 : decode cL_law 8 = .ok (.new 10, 3) := by decide +kernel
theorem dL_law_11 : decode cL_law 11 = .ok (.dup, 1) := by decide +kernel
theorem dL_law_12 : decode cL_law 12 = .ok (.invokespecial 12, 3) := by decide +kernel
theorem dL_law_15 : decode cL_law 15 = .ok (.astore_n 2, 1) := by decide +kernel
theorem dL_law_16 : decode cL_law 16 = .ok (.iconst 0, 1) := by decide +kernel
theorem dL_law_17 : decode cL_law 17 = .ok (.istore_n 3, 1) := by decide +kernel
theorem dL_law_18 : decode cL_law 18 = .ok (.iload_n 3, 1) := by decide +kernel
theorem dL_law_19 : decode cL_law 19 = .ok (.aload_n 0, 1) := by decide +kernel
theorem dL_law_20 : decode cL_law 20 = .ok (.arraylength, 1) := by decide +kernel
theorem dL_law_21 : decode cL_law 21 = .ok (.iconst 5, 1) := by decide +kernel
theorem dL_law_22 : decode cL_law 22 = .ok (.isub, 1) := by decide +kernel
theorem dL_law_23 : decode cL_law 23 = .ok (.if_icmp .gt 305, 3) := by decide +kernel
theorem dL_law_26 : decode cL_law 26 = .ok (.aload_n 0, 1) := by decide +kernel
theorem dL_law_27 : decode cL_law 27 = .ok (.iload_n 3, 1) := by decide +kernel
theorem dL_law_28 : decode cL_law 28 = .ok (.iaload, 1) := by decide +kernel
theorem dL_law_29 : decode cL_law 29 = .ok (.bipush 7, 2) := by decide +kernel
theorem dL_law_31 : decode cL_law 31 = .ok (.iand, 1) := by decide +kernel
theorem dL_law_32 : decode cL_law 32 = .ok (.tableswitch 290 0 7 #[48, 101, 134, 167, 190, 223, 256, 279], 48) := by decide +kernel
theorem dL_law_80 : decode cL_law 80 = .ok (.aload_n 1, 1) := by decide +kernel
theorem dL_law_81 : decode cL_law 81 = .ok (.aload_n 0, 1) := by decide +kernel
theorem dL_law_82 : decode cL_law 82 = .ok (.iload_n 3, 1) := by decide +kernel
theorem dL_law_83 : decode cL_law 83 = .ok (.iconst 1, 1) := by decide +kernel
theorem dL_law_84 : decode cL_law 84 = .ok (.iadd, 1) := by decide +kernel
theorem dL_law_85 : decode cL_law 85 = .ok (.iaload, 1) := by decide +kernel
theorem dL_law_86 : decode cL_law 86 = .ok (.aload_n 0, 1) := by decide +kernel
theorem dL_law_87 : decode cL_law 87 = .ok (.iload_n 3, 1) := by decide +kernel
theorem dL_law_88 : decode cL_law 88 = .ok (.iconst 2, 1) := by decide +kernel
theorem dL_law_89 : decode cL_law 89 = .ok (.iadd, 1) := by decide +kernel
theorem dL_law_90 : decode cL_law 90 = .ok (.iaload, 1) := by decide +kernel
theorem dL_law_91 : decode cL_law 91 = .ok (.aload_n 0, 1) := by decide +kernel
theorem dL_law_92 : decode cL_law 92 = .ok (.iload_n 3, 1) := by decide +kernel
theorem dL_law_93 : decode cL_law 93 = .ok (.iconst 3, 1) := by decide +kernel
theorem dL_law_94 : decode cL_law 94 = .ok (.iadd, 1) := by decide +kernel
theorem dL_law_95 : decode cL_law 95 = .ok (.iaload, 1) := by decide +kernel
theorem dL_law_96 : decode cL_law 96 = .ok (.aload_n 0, 1) := by decide +kernel
theorem dL_law_97 : decode cL_law 97 = .ok (.iload_n 3, 1) := by decide +kernel
theorem dL_law_98 : decode cL_law 98 = .ok (.iconst 4, 1) := by decide +kernel
theorem dL_law_99 : decode cL_law 99 = .ok (.iadd, 1) := by decide +kernel
theorem dL_law_100 : decode cL_law 100 = .ok (.iaload, 1) := by decide +kernel
theorem dL_law_101 : decode cL_law 101 = .ok (.invokevirtual 13, 3) := by decide +kernel
theorem dL_law_104 : decode cL_law 104 = .ok (.aload_n 2, 1) := by decide +kernel
theorem dL_law_105 : decode cL_law 105 = .ok (.aload_n 0, 1) := by decide +kernel
theorem dL_law_106 : decode cL_law 106 = .ok (.iload_n 3, 1) := by decide +kernel
theorem dL_law_107 : decode cL_law 107 = .ok (.iconst 1, 1) := by decide +kernel
theorem dL_law_108 : decode cL_law 108 = .ok (.iadd, 1) := by decide +kernel
theorem dL_law_109 : decode cL_law 109 = .ok (.iaload, 1) := by decide +kernel
theorem dL_law_110 : decode cL_law 110 = .ok (.aload_n 0, 1) := by decide +kernel
theorem dL_law_111 : decode cL_law 111 = .ok (.iload_n 3, 1) := by decide +kernel
theorem dL_law_112 : decode cL_law 112 = .ok (.iconst 2, 1) := by decide +kernel
theorem dL_law_113 : decode cL_law 113 = .ok (.iadd, 1) := by decide +kernel
theorem dL_law_114 : decode cL_law 114 = .ok (.iaload, 1) := by decide +kernel
theorem dL_law_115 : decode cL_law 115 = .ok (.aload_n 0, 1) := by decide +kernel
theorem dL_law_116 : decode cL_law 116 = .ok (.iload_n 3, 1) := by decide +kernel
theorem dL_law_117 : decode cL_law 117 = .ok (.iconst 3, 1) := by decide +kernel
theorem dL_law_118 : decode cL_law 118 = .ok (.iadd, 1) := by decide +kernel
theorem dL_law_119 : decode cL_law 119 = .ok (.iaload, 1) := by decide +kernel
theorem dL_law_120 : decode cL_law 120 = .ok (.aload_n 0, 1) := by decide +kernel
theorem dL_law_121 : decode cL_law 121 = .ok (.iload_n 3, 1) := by decide +kernel
theorem dL_law_122 : decode cL_law 122 = .ok (.iconst 4, 1) := by decide +kernel
theorem dL_law_123 : decode cL_law 123 = .ok (.iadd, 1) := by decide +kernel
theorem dL_law_124 : decode cL_law 124 = .ok (.iaload, 1) := by decide +kernel
theorem dL_law_125 : decode cL_law 125 = .ok (.invokevirtual 17, 3) := by decide +kernel
theorem dL_law_128 : decode cL_law 128 = .ok (.if_icmp .eq 194, 3) := by decide +kernel
theorem dL_law_131 : decode cL_law 131 = .ok (.iconst 0, 1) := by decide +kernel
theorem dL_law_132 : decode cL_law 132 = .ok (.ireturn, 1) := by decide +kernel
theorem dL_law_133 : decode cL_law 133 = .ok (.aload_n 1, 1) := by decide +kernel
theorem dL_law_134 : decode cL_law 134 = .ok (.aload_n 0, 1) := by decide +kernel
theorem dL_law_135 : decode cL_law 135 = .ok (.iload_n 3, 1) := by decide +kernel
theorem dL_law_136 : decode cL_law 136 = .ok (.iconst 1, 1) := by decide +kernel
theorem dL_law_137 : decode cL_law 137 = .ok (.iadd, 1) := by decide +kernel
theorem dL_law_138 : decode cL_law 138 = .ok (.iaload, 1) := by decide +kernel
theorem dL_law_139 : decode cL_law 139 = .ok (.aload_n 0, 1) := by decide +kernel
theorem dL_law_140 : decode cL_law 140 = .ok (.iload_n 3, 1) := by decide +kernel
theorem dL_law_141 : decode cL_law 141 = .ok (.iconst 2, 1) := by decide +kernel
theorem dL_law_142 : decode cL_law 142 = .ok (.iadd, 1) := by decide +kernel
theorem dL_law_143 : decode cL_law 143 = .ok (.iaload, 1) := by decide +kernel
theorem dL_law_144 : decode cL_law 144 = .ok (.invokevirtual 18, 3) := by decide +kernel
theorem dL_law_147 : decode cL_law 147 = .ok (.aload_n 2, 1) := by decide +kernel
theorem dL_law_148 : decode cL_law 148 = .ok (.aload_n 0, 1) := by decide +kernel
theorem dL_law_149 : decode cL_law 149 = .ok (.iload_n 3, 1) := by decide +kernel
theorem dL_law_150 : decode cL_law 150 = .ok (.iconst 1, 1) := by decide +kernel
theorem dL_law_151 : decode cL_law 151 = .ok (.iadd, 1) := by decide +kernel
theorem dL_law_152 : decode cL_law 152 = .ok (.iaload, 1) := by decide +kernel
theorem dL_law_153 : decode cL_law 153 = .ok (.aload_n 0, 1) := by decide +kernel
theorem dL_law_154 : decode cL_law 154 = .ok (.iload_n 3, 1) := by decide +kernel
theorem dL_law_155 : decode cL_law 155 = .ok (.iconst 2, 1) := by decide +kernel
theorem dL_law_156 : decode cL_law 156 = .ok (.iadd, 1) := by decide +kernel
theorem dL_law_157 : decode cL_law 157 = .ok (.iaload, 1) := by decide +kernel
theorem dL_law_158 : decode cL_law 158 = .ok (.invokevirtual 22, 3) := by decide +kernel
theorem dL_law_161 : decode cL_law 161 = .ok (.if_icmp .eq 161, 3) := by decide +kernel
theorem dL_law_164 : decode cL_law 164 = .ok (.iconst 0, 1) := by decide +kernel
theorem dL_law_165 : decode cL_law 165 = .ok (.ireturn, 1) := by decide +kernel
theorem dL_law_166 : decode cL_law 166 = .ok (.aload_n 1, 1) := by decide +kernel
theorem dL_law_167 : decode cL_law 167 = .ok (.aload_n 0, 1) := by decide +kernel
theorem dL_law_168 : decode cL_law 168 = .ok (.iload_n 3, 1) := by decide +kernel
theorem dL_law_169 : decode cL_law 169 = .ok (.iconst 1, 1) := by decide +kernel
theorem dL_law_170 : decode cL_law 170 = .ok (.iadd, 1) := by decide +kernel
theorem dL_law_171 : decode cL_law 171 = .ok (.iaload, 1) := by decide +kernel
theorem dL_law_172 : decode cL_law 172 = .ok (.aload_n 0, 1) := by decide +kernel
theorem dL_law_173 : decode cL_law 173 = .ok (.iload_n 3, 1) := by decide +kernel
theorem dL_law_174 : decode cL_law 174 = .ok (.iconst 2, 1) := by decide +kernel
theorem dL_law_175 : decode cL_law 175 = .ok (.iadd, 1) := by decide +kernel
theorem dL_law_176 : decode cL_law 176 = .ok (.iaload, 1) := by decide +kernel
theorem dL_law_177 : decode cL_law 177 = .ok (.invokevirtual 23, 3) := by decide +kernel
theorem dL_law_180 : decode cL_law 180 = .ok (.aload_n 2, 1) := by decide +kernel
theorem dL_law_181 : decode cL_law 181 = .ok (.aload_n 0, 1) := by decide +kernel
theorem dL_law_182 : decode cL_law 182 = .ok (.iload_n 3, 1) := by decide +kernel
theorem dL_law_183 : decode cL_law 183 = .ok (.iconst 1, 1) := by decide +kernel
theorem dL_law_184 : decode cL_law 184 = .ok (.iadd, 1) := by decide +kernel
theorem dL_law_185 : decode cL_law 185 = .ok (.iaload, 1) := by decide +kernel
theorem dL_law_186 : decode cL_law 186 = .ok (.aload_n 0, 1) := by decide +kernel
theorem dL_law_187 : decode cL_law 187 = .ok (.iload_n 3, 1) := by decide +kernel
theorem dL_law_188 : decode cL_law 188 = .ok (.iconst 2, 1) := by decide +kernel
theorem dL_law_189 : decode cL_law 189 = .ok (.iadd, 1) := by decide +kernel
theorem dL_law_190 : decode cL_law 190 = .ok (.iaload, 1) := by decide +kernel
theorem dL_law_191 : decode cL_law 191 = .ok (.invokevirtual 27, 3) := by decide +kernel
theorem dL_law_194 : decode cL_law 194 = .ok (.if_icmp .eq 128, 3) := by decide +kernel
theorem dL_law_197 : decode cL_law 197 = .ok (.iconst 0, 1) := by decide +kernel
theorem dL_law_198 : decode cL_law 198 = .ok (.ireturn, 1) := by decide +kernel
theorem dL_law_199 : decode cL_law 199 = .ok (.aload_n 1, 1) := by decide +kernel
theorem dL_law_200 : decode cL_law 200 = .ok (.aload_n 0, 1) := by decide +kernel
theorem dL_law_201 : decode cL_law 201 = .ok (.iload_n 3, 1) := by decide +kernel
theorem dL_law_202 : decode cL_law 202 = .ok (.iconst 1, 1) := by decide +kernel
theorem dL_law_203 : decode cL_law 203 = .ok (.iadd, 1) := by decide +kernel
theorem dL_law_204 : decode cL_law 204 = .ok (.iaload, 1) := by decide +kernel
theorem dL_law_205 : decode cL_law 205 = .ok (.invokevirtual 28, 3) := by decide +kernel
theorem dL_law_208 : decode cL_law 208 = .ok (.aload_n 2, 1) := by decide +kernel
theorem dL_law_209 : decode cL_law 209 = .ok (.aload_n 0, 1) := by decide +kernel
theorem dL_law_210 : decode cL_law 210 = .ok (.iload_n 3, 1) := by decide +kernel
theorem dL_law_211 : decode cL_law 211 = .ok (.iconst 1, 1) := by decide +kernel
theorem dL_law_212 : decode cL_law 212 = .ok (.iadd, 1) := by decide +kernel
theorem dL_law_213 : decode cL_law 213 = .ok (.iaload, 1) := by decide +kernel
theorem dL_law_214 : decode cL_law 214 = .ok (.invokevirtual 32, 3) := by decide +kernel
theorem dL_law_217 : decode cL_law 217 = .ok (.if_icmp .eq 105, 3) := by decide +kernel
theorem dL_law_220 : decode cL_law 220 = .ok (.iconst 0, 1) := by decide +kernel
theorem dL_law_221 : decode cL_law 221 = .ok (.ireturn, 1) := by decide +kernel
theorem dL_law_222 : decode cL_law 222 = .ok (.aload_n 1, 1) := by decide +kernel
theorem dL_law_223 : decode cL_law 223 = .ok (.aload_n 0, 1) := by decide +kernel
theorem dL_law_224 : decode cL_law 224 = .ok (.iload_n 3, 1) := by decide +kernel
theorem dL_law_225 : decode cL_law 225 = .ok (.iconst 1, 1) := by decide +kernel
theorem dL_law_226 : decode cL_law 226 = .ok (.iadd, 1) := by decide +kernel
theorem dL_law_227 : decode cL_law 227 = .ok (.iaload, 1) := by decide +kernel
theorem dL_law_228 : decode cL_law 228 = .ok (.aload_n 0, 1) := by decide +kernel
theorem dL_law_229 : decode cL_law 229 = .ok (.iload_n 3, 1) := by decide +kernel
theorem dL_law_230 : decode cL_law 230 = .ok (.iconst 2, 1) := by decide +kernel
theorem dL_law_231 : decode cL_law 231 = .ok (.iadd, 1) := by decide +kernel
theorem dL_law_232 : decode cL_law 232 = .ok (.iaload, 1) := by decide +kernel
theorem dL_law_233 : decode cL_law 233 = .ok (.invokevirtual 33, 3) := by decide +kernel
theorem dL_law_236 : decode cL_law 236 = .ok (.aload_n 2, 1) := by decide +kernel
theorem dL_law_237 : decode cL_law 237 = .ok (.aload_n 0, 1) := by decide +kernel
theorem dL_law_238 : decode cL_law 238 = .ok (.iload_n 3, 1) := by decide +kernel
theorem dL_law_239 : decode cL_law 239 = .ok (.iconst 1, 1) := by decide +kernel
theorem dL_law_240 : decode cL_law 240 = .ok (.iadd, 1) := by decide +kernel
theorem dL_law_241 : decode cL_law 241 = .ok (.iaload, 1) := by decide +kernel
theorem dL_law_242 : decode cL_law 242 = .ok (.aload_n 0, 1) := by decide +kernel
theorem dL_law_243 : decode cL_law 243 = .ok (.iload_n 3, 1) := by decide +kernel
theorem dL_law_244 : decode cL_law 244 = .ok (.iconst 2, 1) := by decide +kernel
theorem dL_law_245 : decode cL_law 245 = .ok (.iadd, 1) := by decide +kernel
theorem dL_law_246 : decode cL_law 246 = .ok (.iaload, 1) := by decide +kernel
theorem dL_law_247 : decode cL_law 247 = .ok (.invokevirtual 36, 3) := by decide +kernel
theorem dL_law_250 : decode cL_law 250 = .ok (.if_icmp .eq 72, 3) := by decide +kernel
theorem dL_law_253 : decode cL_law 253 = .ok (.iconst 0, 1) := by decide +kernel
theorem dL_law_254 : decode cL_law 254 = .ok (.ireturn, 1) := by decide +kernel
theorem dL_law_255 : decode cL_law 255 = .ok (.aload_n 1, 1) := by decide +kernel
theorem dL_law_256 : decode cL_law 256 = .ok (.aload_n 0, 1) := by decide +kernel
theorem dL_law_257 : decode cL_law 257 = .ok (.iload_n 3, 1) := by decide +kernel
theorem dL_law_258 : decode cL_law 258 = .ok (.iconst 1, 1) := by decide +kernel
theorem dL_law_259 : decode cL_law 259 = .ok (.iadd, 1) := by decide +kernel
theorem dL_law_260 : decode cL_law 260 = .ok (.iaload, 1) := by decide +kernel
theorem dL_law_261 : decode cL_law 261 = .ok (.aload_n 0, 1) := by decide +kernel
theorem dL_law_262 : decode cL_law 262 = .ok (.iload_n 3, 1) := by decide +kernel
theorem dL_law_263 : decode cL_law 263 = .ok (.iconst 2, 1) := by decide +kernel
theorem dL_law_264 : decode cL_law 264 = .ok (.iadd, 1) := by decide +kernel
theorem dL_law_265 : decode cL_law 265 = .ok (.iaload, 1) := by decide +kernel
theorem dL_law_266 : decode cL_law 266 = .ok (.invokevirtual 37, 3) := by decide +kernel
theorem dL_law_269 : decode cL_law 269 = .ok (.aload_n 2, 1) := by decide +kernel
theorem dL_law_270 : decode cL_law 270 = .ok (.aload_n 0, 1) := by decide +kernel
theorem dL_law_271 : decode cL_law 271 = .ok (.iload_n 3, 1) := by decide +kernel
theorem dL_law_272 : decode cL_law 272 = .ok (.iconst 1, 1) := by decide +kernel
theorem dL_law_273 : decode cL_law 273 = .ok (.iadd, 1) := by decide +kernel
theorem dL_law_274 : decode cL_law 274 = .ok (.iaload, 1) := by decide +kernel
theorem dL_law_275 : decode cL_law 275 = .ok (.aload_n 0, 1) := by decide +kernel
theorem dL_law_276 : decode cL_law 276 = .ok (.iload_n 3, 1) := by decide +kernel
theorem dL_law_277 : decode cL_law 277 = .ok (.iconst 2, 1) := by decide +kernel
theorem dL_law_278 : decode cL_law 278 = .ok (.iadd, 1) := by decide +kernel
theorem dL_law_279 : decode cL_law 279 = .ok (.iaload, 1) := by decide +kernel
theorem dL_law_280 : decode cL_law 280 = .ok (.invokevirtual 40, 3) := by decide +kernel
theorem dL_law_283 : decode cL_law 283 = .ok (.if_icmp .eq 39, 3) := by decide +kernel
theorem dL_law_286 : decode cL_law 286 = .ok (.iconst 0, 1) := by decide +kernel
theorem dL_law_287 : decode cL_law 287 = .ok (.ireturn, 1) := by decide +kernel
theorem dL_law_288 : decode cL_law 288 = .ok (.aload_n 1, 1) := by decide +kernel
theorem dL_law_289 : decode cL_law 289 = .ok (.aload_n 0, 1) := by decide +kernel
theorem dL_law_290 : decode cL_law 290 = .ok (.iload_n 3, 1) := by decide +kernel
theorem dL_law_291 : decode cL_law 291 = .ok (.iconst 1, 1) := by decide +kernel
theorem dL_law_292 : decode cL_law 292 = .ok (.iadd, 1) := by decide +kernel
theorem dL_law_293 : decode cL_law 293 = .ok (.iaload, 1) := by decide +kernel
theorem dL_law_294 : decode cL_law 294 = .ok (.invokevirtual 41, 3) := by decide +kernel
theorem dL_law_297 : decode cL_law 297 = .ok (.aload_n 2, 1) := by decide +kernel
theorem dL_law_298 : decode cL_law 298 = .ok (.aload_n 0, 1) := by decide +kernel
theorem dL_law_299 : decode cL_law 299 = .ok (.iload_n 3, 1) := by decide +kernel
theorem dL_law_300 : decode cL_law 300 = .ok (.iconst 1, 1) := by decide +kernel
theorem dL_law_301 : decode cL_law 301 = .ok (.iadd, 1) := by decide +kernel
theorem dL_law_302 : decode cL_law 302 = .ok (.iaload, 1) := by decide +kernel
theorem dL_law_303 : decode cL_law 303 = .ok (.invokevirtual 44, 3) := by decide +kernel
theorem dL_law_306 : decode cL_law 306 = .ok (.if_icmp .eq 16, 3) := by decide +kernel
theorem dL_law_309 : decode cL_law 309 = .ok (.iconst 0, 1) := by decide +kernel
theorem dL_law_310 : decode cL_law 310 = .ok (.ireturn, 1) := by decide +kernel
theorem dL_law_311 : decode cL_law 311 = .ok (.aload_n 1, 1) := by decide +kernel
theorem dL_law_312 : decode cL_law 312 = .ok (.invokevirtual 45, 3) := by decide +kernel
theorem dL_law_315 : decode cL_law 315 = .ok (.aload_n 2, 1) := by decide +kernel
theorem dL_law_316 : decode cL_law 316 = .ok (.invokevirtual 48, 3) := by decide +kernel
theorem dL_law_319 : decode cL_law 319 = .ok (.goto 3, 3) := by decide +kernel
theorem dL_law_322 : decode cL_law 322 = .ok (.iinc 3 5, 3) := by decide +kernel
theorem dL_law_325 : decode cL_law 325 = .ok (.goto (-307), 3) := by decide +kernel
theorem dL_law_328 : decode cL_law 328 = .ok (.iconst 1, 1) := by decide +kernel
theorem dL_law_329 : decode cL_law 329 = .ok (.ireturn, 1) := by decide +kernel
end
section
/-! THE RULES as a table: T s k = element k of sequence s, if it is there -/
abbrev sg_D : Type := (Nat → Nat) × (Nat → Int32) × (Nat → Int32)
def sg_kd (D : sg_D) (s : Nat) : Nat := D.1 s
def sg_na (D : sg_D) (s : Nat) : Int32 := D.2.1 s
def sg_nb (D : sg_D) (s : Nat) : Int32 := D.2.2 s
def sg_sa (D : sg_D) (s : Nat) : Nat := (sg_na D s).toNatClampNeg
def sg_sb (D : sg_D) (s : Nat) : Nat := (sg_nb D s).toNatClampNeg
def sg_usA (k : Nat) : Prop := k = 2 ∨ k = 3 ∨ k = 4 ∨ k = 6 ∨ k = 7 ∨ k = 8
def sg_usB (k : Nat) : Prop := k = 1 ∨ k = 3 ∨ k = 4 ∨ k = 5 ∨ k = 7 ∨ k = 8
def sg_Ok (D : sg_D) : Prop := ∀ s, s < 6 → sg_kd D s ≤ 8 ∧ (sg_usA (sg_kd D s) → ∃ j, j < 6 ∧ sg_na D s = nI j) ∧ (sg_usB (sg_kd D s) → ∃ j, j < 6 ∧ sg_nb D s = nI j)
theorem sg_Ok.k {D : sg_D} (h : sg_Ok D) {s : Nat} (hs : s < 6) : sg_kd D s ≤ 8 := (h s hs).1
theorem sg_Ok.a {D : sg_D} (h : sg_Ok D) {s : Nat} (hs : s < 6) (hk : sg_usA (sg_kd D s)) : sg_sa D s < 6 ∧ sg_na D s = nI (sg_sa D s) := by
  obtain ⟨j, hj, e⟩ := (h s hs).2.1 hk
  have hc : sg_sa D s = j := by
    unfold sg_sa
    rw [e]
    exact nI_clamp (by omega)
  rw [hc]
  exact ⟨hj, e⟩
theorem sg_Ok.b {D : sg_D} (h : sg_Ok D) {s : Nat} (hs : s < 6) (hk : sg_usB (sg_kd D s)) : sg_sb D s < 6 ∧ sg_nb D s = nI (sg_sb D s) := by
  obtain ⟨j, hj, e⟩ := (h s hs).2.2 hk
  have hc : sg_sb D s = j := by
    unfold sg_sb
    rw [e]
    exact nI_clamp (by omega)
  rw [hc]
  exact ⟨hj, e⟩
abbrev sg_T : Type := Nat → Nat → Option Int32
def sg_2 (f : Int32 → Int32 → Int32) (x y : Option Int32) : Option Int32 := match x, y with
  | some a, some b => some (f a b)
  | _, _ => none
theorem sg_2_some {f : Int32 → Int32 → Int32} {x y : Option Int32} {v : Int32} (h : sg_2 f x y = some v) : ∃ a b, x = some a ∧ y = some b ∧ v = f a b := by
  cases x with
  | none => exact absurd h (by simp [sg_2])
  | some a =>
    cases y with
    | none => exact absurd h (by simp [sg_2])
    | some b => exact ⟨a, b, rfl, rfl, by simpa [sg_2] using h.symm⟩
theorem sg_2_mono {f : Int32 → Int32 → Int32} {x y x' y' : Option Int32} {v : Int32} (hx : ∀ w, x = some w → x' = some w) (hy : ∀ w, y = some w → y' = some w) (h : sg_2 f x y = some v) : sg_2 f x' y' = some v := by
  obtain ⟨a, b, ha, hb, rfl⟩ := sg_2_some h
  rw [hx a ha, hy b hb]
  rfl
/-- the sum of the first n elements -/
def sg_sum (T : sg_T) (t : Nat) : Nat → Option Int32
  | 0 => some 0
  | n + 1 => sg_2 (fun x y => x + y) (sg_sum T t n) (T t n)
theorem sg_sum_mono {T T' : sg_T} {t : Nat} : ∀ (n : Nat) (v : Int32), (∀ j w, j < n → T t j = some w → T' t j = some w) → sg_sum T t n = some v → sg_sum T' t n = some v := by
  intro n
  induction n with
  | zero => intro v _ h; exact h
  | succ n ih =>
    intro v hT h
    exact sg_2_mono (fun w hw => ih w (fun j w hj => hT j w (by omega)) hw) (fun w hw => hT n w (by omega) hw) h
def sg_nx (pq : Nat × Nat) (x y : Int32) : Nat × Nat := (if x ≤ y then pq.1 + 1 else pq.1, if y ≤ x then pq.2 + 1 else pq.2)
/-- the places of a merge after n steps -/
def sg_wk (T : sg_T) (t u : Nat) : Nat → Option (Nat × Nat)
  | 0 => some (0, 0)
  | n + 1 => match sg_wk T t u n with
    | none => none
    | some pq => match T t pq.1, T u pq.2 with
      | some x, some y => some (sg_nx pq x y)
      | _, _ => none
theorem sg_wk_some {T : sg_T} {t u n : Nat} {r : Nat × Nat} (h : sg_wk T t u (n + 1) = some r) : ∃ pq x y, sg_wk T t u n = some pq ∧ T t pq.1 = some x ∧ T u pq.2 = some y ∧ r = sg_nx pq x y := by
  unfold sg_wk at h
  cases hw : sg_wk T t u n with
  | none => rw [hw] at h; exact absurd h (by simp)
  | some pq =>
    rw [hw] at h
    cases hx : T t pq.1 with
    | none => simp [hx] at h
    | some x =>
      cases hy : T u pq.2 with
      | none => simp [hx, hy] at h
      | some y =>
        simp [hx, hy] at h
        exact ⟨pq, x, y, rfl, hx, hy, h.symm⟩
theorem sg_wk_mk {T : sg_T} {t u n : Nat} {pq : Nat × Nat} {x y : Int32} (h : sg_wk T t u n = some pq) (hx : T t pq.1 = some x) (hy : T u pq.2 = some y) : sg_wk T t u (n + 1) = some (sg_nx pq x y) := by
  unfold sg_wk
  rw [h]
  simp [hx, hy]
theorem sg_wk_le {T : sg_T} {t u : Nat} : ∀ (n : Nat) (pq : Nat × Nat), sg_wk T t u n = some pq → pq.1 ≤ n ∧ pq.2 ≤ n := by
  intro n
  induction n with
  | zero =>
    intro pq h
    simp [sg_wk] at h
    rw [← h]
    exact ⟨Nat.le_refl _, Nat.le_refl _⟩
  | succ n ih =>
    intro pq h
    obtain ⟨r, x, y, hr, -, -, rfl⟩ := sg_wk_some h
    obtain ⟨h1, h2⟩ := ih r hr
    unfold sg_nx
    refine ⟨?_, ?_⟩
    · show (if x ≤ y then r.1 + 1 else r.1) ≤ n + 1
      split <;> omega
    · show (if y ≤ x then r.2 + 1 else r.2) ≤ n + 1
      split <;> omega
theorem sg_wk_mono {T T' : sg_T} {t u : Nat} : ∀ (n : Nat) (pq : Nat × Nat), (∀ j w, j < n → T t j = some w → T' t j = some w) → (∀ j w, j < n → T u j = some w → T' u j = some w) → sg_wk T t u n = some pq → sg_wk T' t u n = some pq := by
  intro n
  induction n with
  | zero => intro pq _ _ h; exact h
  | succ n ih =>
    intro pq ht hu h
    obtain ⟨r, x, y, hr, hx, hy, rfl⟩ := sg_wk_some h
    obtain ⟨h1, h2⟩ := sg_wk_le n r hr
    exact sg_wk_mk (ih r (fun j w hj => ht j w (by omega)) (fun j w hj => hu j w (by omega)) hr) (ht _ _ (by omega) hx) (hu _ _ (by omega) hy)
def sg_min (x y : Int32) : Int32 := if x < y then x else y
/-- the rule of the kind c, without the element ahead -/
def sg_G (D : sg_D) (T : sg_T) (s k : Nat) : Nat → Option Int32
  | 0 => some (sg_na D s + nI k * sg_nb D s)
  | 1 => if k = 0 then some (sg_na D s) else T (sg_sb D s) (k - 1)
  | 2 => T (sg_sa D s) (k + 1)
  | 3 => sg_2 (fun x y => x + y) (T (sg_sa D s) k) (T (sg_sb D s) k)
  | 4 => sg_2 (fun x y => x * y) (T (sg_sa D s) k) (T (sg_sb D s) k)
  | 5 => sg_2 (fun x y => x * y) (some (sg_na D s)) (T (sg_sb D s) k)
  | 6 => sg_sum T (sg_sa D s) (k + 1)
  | 7 => if k % 2 = 0 then T (sg_sa D s) (k / 2) else T (sg_sb D s) (k / 2)
  | _ => match sg_wk T (sg_sa D s) (sg_sb D s) k with
    | none => none
    | some pq => sg_2 sg_min (T (sg_sa D s) pq.1) (T (sg_sb D s) pq.2)
theorem sg_G_mono {D : sg_D} {T T' : sg_T} {s k : Nat} {v : Int32} (P : Nat → Prop) (c : Nat) (hc : c ≤ 8) (ha : sg_usA c → P (sg_sa D s)) (hb : sg_usB c → P (sg_sb D s)) (h : ∀ t j w, P t → j ≤ k → T t j = some w → T' t j = some w) (h2 : c = 2 → ∀ w, T (sg_sa D s) (k + 1) = some w → T' (sg_sa D s) (k + 1) = some w) (hv : sg_G D T s k c = some v) : sg_G D T' s k c = some v := by
  match c, hc, ha, hb, h2, hv with
  | 0, _, _, _, _, hv => exact hv
  | 1, _, _, hb, _, hv =>
    simp only [sg_G] at hv ⊢
    by_cases hk : k = 0
    · rw [if_pos hk] at hv ⊢
      exact hv
    · rw [if_neg hk] at hv ⊢
      exact h _ _ _ (hb (by simp [sg_usB])) (by omega) hv
  | 2, _, _, _, h2, hv => exact h2 rfl v hv
  | 3, _, ha, hb, _, hv => exact sg_2_mono (fun w hw => h _ _ w (ha (by simp [sg_usA])) (Nat.le_refl _) hw) (fun w hw => h _ _ w (hb (by simp [sg_usB])) (Nat.le_refl _) hw) hv
  | 4, _, ha, hb, _, hv => exact sg_2_mono (fun w hw => h _ _ w (ha (by simp [sg_usA])) (Nat.le_refl _) hw) (fun w hw => h _ _ w (hb (by simp [sg_usB])) (Nat.le_refl _) hw) hv
  | 5, _, ha, hb, _, hv => exact sg_2_mono (fun w hw => hw) (fun w hw => h _ _ w (hb (by simp [sg_usB])) (Nat.le_refl _) hw) hv
  | 6, _, ha, _, _, hv => exact sg_sum_mono (k + 1) v (fun j w hj hw => h _ _ w (ha (by simp [sg_usA])) (by omega) hw) hv
  | 7, _, ha, hb, _, hv =>
    simp only [sg_G] at hv ⊢
    by_cases hk : k % 2 = 0
    · rw [if_pos hk] at hv ⊢
      exact h _ _ _ (ha (by simp [sg_usA])) (by omega) hv
    · rw [if_neg hk] at hv ⊢
      exact h _ _ _ (hb (by simp [sg_usB])) (by omega) hv
  | 8, _, ha, hb, _, hv =>
    simp only [sg_G] at hv ⊢
    cases hw : sg_wk T (sg_sa D s) (sg_sb D s) k with
    | none => rw [hw] at hv; exact absurd hv (by simp)
    | some pq =>
      rw [hw] at hv
      obtain ⟨h1, h2⟩ := sg_wk_le k pq hw
      rw [sg_wk_mono k pq (fun j w hj hw => h _ _ w (ha (by simp [sg_usA])) (by omega) hw) (fun j w hj hw => h _ _ w (hb (by simp [sg_usB])) (by omega) hw) hw]
      exact sg_2_mono (fun w hw => h _ _ w (ha (by simp [sg_usA])) h1 hw) (fun w hw => h _ _ w (hb (by simp [sg_usB])) h2 hw) hv
/-- the rule: the element ahead is there, and what the kind wants -/
def sg_F (D : sg_D) (T : sg_T) (s k : Nat) : Option Int32 := if k = 0 ∨ (T s (k - 1)).isSome = true then sg_G D T s k (sg_kd D s) else none
theorem sg_F_some {D : sg_D} {T : sg_T} {s k : Nat} {v : Int32} (h : sg_F D T s k = some v) : (k = 0 ∨ ∃ w, T s (k - 1) = some w) ∧ sg_G D T s k (sg_kd D s) = some v := by
  unfold sg_F at h
  by_cases hc : k = 0 ∨ (T s (k - 1)).isSome = true
  · rw [if_pos hc] at h
    refine ⟨?_, h⟩
    rcases hc with hc | hc
    · exact Or.inl hc
    · exact Or.inr (Option.isSome_iff_exists.mp hc)
  · rw [if_neg hc] at h
    exact absurd h (by simp)
theorem sg_F_mk {D : sg_D} {T : sg_T} {s k : Nat} {v : Int32} (h : k = 0 ∨ ∃ w, T s (k - 1) = some w) (hv : sg_G D T s k (sg_kd D s) = some v) : sg_F D T s k = some v := by
  unfold sg_F
  rw [if_pos]
  · exact hv
  · rcases h with h | ⟨w, h⟩
    · exact Or.inl h
    · exact Or.inr (by rw [h]; rfl)
theorem sg_F_mono {D : sg_D} {T T' : sg_T} {s k : Nat} {v : Int32} (P : Nat → Prop) (hc : sg_kd D s ≤ 8) (hs : P s) (ha : sg_usA (sg_kd D s) → P (sg_sa D s)) (hb : sg_usB (sg_kd D s) → P (sg_sb D s)) (h : ∀ t j w, P t → j ≤ k → T t j = some w → T' t j = some w) (h2 : sg_kd D s = 2 → ∀ w, T (sg_sa D s) (k + 1) = some w → T' (sg_sa D s) (k + 1) = some w) (hv : sg_F D T s k = some v) : sg_F D T' s k = some v := by
  obtain ⟨h0, h1⟩ := sg_F_some hv
  refine sg_F_mk ?_ (sg_G_mono P _ hc ha hb h h2 h1)
  rcases h0 with h0 | ⟨w, h0⟩
  · exact Or.inl h0
  · exact Or.inr ⟨w, h s (k - 1) w hs (by omega) h0⟩
/-- only the first six sequences count -/
def sg_le (T T' : sg_T) : Prop := ∀ s k v, s < 6 → T s k = some v → T' s k = some v
theorem sg_F_le {D : sg_D} (hD : sg_Ok D) {T T' : sg_T} (h : sg_le T T') : sg_le (sg_F D T) (sg_F D T') := fun s k v hs hv =>
  sg_F_mono (fun t => t < 6) (hD.k hs) hs (fun q => (hD.a hs q).1) (fun q => (hD.b hs q).1) (fun t j w ht _ hw => h t j w ht hw) (fun q w hw => h _ _ w (hD.a hs (by rw [q]; simp [sg_usA])).1 hw) hv
/-- n rounds of the rules -/
def sg_Tb (D : sg_D) : Nat → sg_T
  | 0 => fun _ _ => none
  | n + 1 => sg_F D (sg_Tb D n)
theorem sg_Tb_1 {D : sg_D} (hD : sg_Ok D) : ∀ n, sg_le (sg_Tb D n) (sg_Tb D (n + 1)) := by
  intro n
  induction n with
  | zero => intro s k v _ h; exact absurd h (by simp [sg_Tb])
  | succ n ih => exact sg_F_le hD ih
theorem sg_Tb_le {D : sg_D} (hD : sg_Ok D) {n m : Nat} (h : n ≤ m) : sg_le (sg_Tb D n) (sg_Tb D m) := by
  induction m with
  | zero =>
    have : n = 0 := by omega
    subst this
    exact fun _ _ _ _ q => q
  | succ m ih =>
    rcases Nat.lt_or_ge m n with q | q
    · have : n = m + 1 := by omega
      subst this
      exact fun _ _ _ _ q => q
    · exact fun s k v hs hv => sg_Tb_1 hD m s k v hs (ih q s k v hs hv)
theorem sg_Tb_pre1 {D : sg_D} (hD : sg_Ok D) {n s k : Nat} {v : Int32} (hs : s < 6) (h : sg_Tb D n s (k + 1) = some v) : ∃ w, sg_Tb D n s k = some w := by
  cases n with
  | zero => exact absurd h (by simp [sg_Tb])
  | succ n =>
    obtain ⟨h0, -⟩ := sg_F_some h
    rcases h0 with h0 | ⟨w, h0⟩
    · exact absurd h0 (by omega)
    · exact ⟨w, sg_Tb_1 hD n s k w hs h0⟩
theorem sg_Tb_pre {D : sg_D} (hD : sg_Ok D) {n s : Nat} (hs : s < 6) : ∀ (d k : Nat) (v : Int32), sg_Tb D n s (k + d) = some v → ∃ w, sg_Tb D n s k = some w := by
  intro d
  induction d with
  | zero => intro k v h; exact ⟨v, h⟩
  | succ d ih =>
    intro k v h
    obtain ⟨w, hw⟩ := sg_Tb_pre1 hD hs (k := k + d) h
    exact ih k w hw
theorem sg_Tb_none {D : sg_D} (hD : sg_Ok D) {s j k : Nat} (hs : s < 6) (hj : j ≤ k) (h : ∀ n, sg_Tb D n s j = none) : ∀ n, sg_Tb D n s k = none := by
  intro n
  cases hv : sg_Tb D n s k with
  | none => rfl
  | some v =>
    obtain ⟨w, hw⟩ := sg_Tb_pre hD hs (k - j) j v (by rw [show j + (k - j) = k by omega]; exact hv)
    rw [h n] at hw
    exact absurd hw (by simp)
/-- element k of s is v -/
def sg_Is (D : sg_D) (s k : Nat) (v : Int32) : Prop := ∃ n, sg_Tb D n s k = some v
theorem sg_Is.one {D : sg_D} (hD : sg_Ok D) {s k : Nat} (hs : s < 6) {v w : Int32} (h1 : sg_Is D s k v) (h2 : sg_Is D s k w) : v = w := by
  obtain ⟨n, h1⟩ := h1
  obtain ⟨m, h2⟩ := h2
  have e1 := sg_Tb_le hD (Nat.le_max_left n m) s k v hs h1
  have e2 := sg_Tb_le hD (Nat.le_max_right n m) s k w hs h2
  rw [e1] at e2
  exact Option.some.inj e2
theorem sg_Is.pre {D : sg_D} (hD : sg_Ok D) {s j k : Nat} (hs : s < 6) {v : Int32} (h : sg_Is D s k v) (hj : j ≤ k) : ∃ w, sg_Is D s j w := by
  obtain ⟨n, h⟩ := h
  obtain ⟨w, hw⟩ := sg_Tb_pre hD hs (k - j) j v (by rw [show j + (k - j) = k by omega]; exact h)
  exact ⟨w, n, hw⟩
/-- no more pigeons than holes -/
theorem sg_php : ∀ (n m : Nat) (f : Nat → Nat), (∀ i, i < m → f i < n) → (∀ i j, i < m → j < m → f i = f j → i = j) → m ≤ n := by
  intro n
  induction n with
  | zero =>
    intro m f h _
    rcases Nat.eq_zero_or_pos m with q | q
    · omega
    · exact absurd (h 0 q) (by omega)
  | succ n ih =>
    intro m f h hi
    by_cases hx : ∃ i, i < m ∧ f i = n
    · obtain ⟨i0, hi0, e0⟩ := hx
      cases m with
      | zero => omega
      | succ m =>
        have := ih m (fun j => if j = i0 then f m else f j) (fun j hj => by
          show (if j = i0 then f m else f j) < n
          split
          · rename_i e
            have h1 := h m (by omega)
            have h2 : f m ≠ n := fun q => by
              have := hi m i0 (by omega) hi0 (by rw [q, e0])
              omega
            omega
          · rename_i e
            have h1 := h j (by omega)
            have h2 : f j ≠ n := fun q => e (hi j i0 (by omega) hi0 (by rw [q, e0]))
            omega) (fun a b ha hb hab => by
          have hab : (if a = i0 then f m else f a) = (if b = i0 then f m else f b) := hab
          by_cases ea : a = i0
          · by_cases eb : b = i0
            · omega
            · rw [if_pos ea, if_neg eb] at hab
              have := hi m b (by omega) (by omega) hab
              omega
          · by_cases eb : b = i0
            · rw [if_neg ea, if_pos eb] at hab
              have := hi a m (by omega) (by omega) hab
              omega
            · rw [if_neg ea, if_neg eb] at hab
              exact hi a b (by omega) (by omega) hab)
        omega
    · have := ih m f (fun i hi' => by
        have h1 := h i hi'
        have h2 : f i ≠ n := fun q => hx ⟨i, hi', q⟩
        omega) hi
      omega
/-- six at most, and none more if one is left out -/
theorem sg_php6 {u : Nat} {U : Nat → Nat} (h6 : ∀ i, i < u → U i < 6) (hi : ∀ i j, i < u → j < u → U i = U j → i = j) : u ≤ 6 := sg_php 6 u U h6 hi
theorem sg_ext6 {u s : Nat} {U : Nat → Nat} (h6 : ∀ i, i < u → U i < 6) (hi : ∀ i j, i < u → j < u → U i = U j → i = j) (hs : s < 6) (hn : ∀ i, i < u → U i ≠ s) : (∀ i, i < u + 1 → (if i = u then s else U i) < 6) ∧ (∀ i j, i < u + 1 → j < u + 1 → (if i = u then s else U i) = (if j = u then s else U j) → i = j) := by
  refine ⟨fun i hi' => ?_, fun i j hi' hj' e => ?_⟩
  · split
    · exact hs
    · exact h6 i (by omega)
  · by_cases ei : i = u
    · by_cases ej : j = u
      · omega
      · rw [if_pos ei, if_neg ej] at e
        exact absurd e.symm (hn j (by omega))
    · by_cases ej : j = u
      · rw [if_neg ei, if_pos ej] at e
        exact absurd e (hn i (by omega))
      · rw [if_neg ei, if_neg ej] at e
        exact hi i j (by omega) (by omega) e
/-- A table that is closed under the rules up to index 20 has all elements up to index 15: a way from 15 to 21 needs six different tails -/
theorem sg_close {D : sg_D} (hD : sg_Ok D) {T : sg_T} (hT : ∀ s k v, s < 6 → k ≤ 20 → sg_F D T s k = some v → T s k = some v) : ∀ (n : Nat) (U : Nat → Nat) (u s k : Nat) (v : Int32), s < 6 → (∀ i, i < u → U i < 6) → (∀ i j, i < u → j < u → U i = U j → i = j) → (∀ i, i < u → ∀ j w, sg_Tb D n (U i) j = some w → j < 15 + u) → k ≤ 15 + u → sg_Tb D n s k = some v → T s k = some v := by
  intro n
  induction n with
  | zero => intro U u s k v _ _ _ _ _ h; exact absurd h (by simp [sg_Tb])
  | succ n ih =>
    intro U u s k v hs h6 hi hU hk h
    cases hp : sg_Tb D n s k with
    | some w =>
      have e := sg_Tb_1 hD n s k w hs hp
      rw [h] at e
      rw [Option.some.inj e]
      exact ih U u s k w hs h6 hi (fun i hi' j w hw => hU i hi' j w (sg_Tb_1 hD n _ j w (h6 i hi') hw)) hk hp
    | none =>
      have hsU : ∀ i, i < u → U i = s → k < 15 + u := fun i hi' e => hU i hi' k v (by rw [e]; exact h)
      have hk20 : k ≤ 20 := by
        by_cases hx : ∃ i, i < u ∧ U i = s
        · obtain ⟨i, hi', e⟩ := hx
          have := hsU i hi' e
          have := sg_php6 h6 hi
          omega
        · obtain ⟨e1, e2⟩ := sg_ext6 h6 hi hs (fun i hi' e => hx ⟨i, hi', e⟩)
          have := sg_php6 e1 e2
          omega
      refine hT s k v hs hk20 ?_
      refine sg_F_mono (fun t => t < 6) (hD.k hs) hs (fun q => (hD.a hs q).1) (fun q => (hD.b hs q).1) (fun t j w ht hj hw => ?_) (fun q w hw => ?_) h
      · exact ih U u t j w ht h6 hi (fun i hi' j w hw => hU i hi' j w (sg_Tb_1 hD n _ j w (h6 i hi') hw)) (by omega) hw
      · have ha := (hD.a hs (by rw [q]; simp [sg_usA])).1
        rcases Nat.lt_or_ge k (15 + u) with hlt | hge
        · exact ih U u _ (k + 1) w ha h6 hi (fun i hi' j w hw => hU i hi' j w (sg_Tb_1 hD n _ j w (h6 i hi') hw)) (by omega) hw
        · have hno : ∀ i, i < u → U i ≠ s := fun i hi' e => by
            have := hsU i hi' e
            omega
          obtain ⟨e1, e2⟩ := sg_ext6 h6 hi hs hno
          refine ih (fun i => if i = u then s else U i) (u + 1) _ (k + 1) w ha e1 e2 (fun i hi' j w hw => ?_) (by omega) hw
          have hw : sg_Tb D n (if i = u then s else U i) j = some w := hw
          by_cases ei : i = u
          · rw [if_pos ei] at hw
            rcases Nat.lt_or_ge j (15 + (u + 1)) with q1 | q1
            · exact q1
            · obtain ⟨x, hx⟩ := sg_Tb_pre hD hs (j - k) k w (by rw [show k + (j - k) = j by omega]; exact hw)
              rw [hp] at hx
              exact absurd hx (by simp)
          · rw [if_neg ei] at hw
            have := hU i (by omega) j w (sg_Tb_1 hD n _ j w (h6 i (by omega)) hw)
            omega
theorem sg_close15 {D : sg_D} (hD : sg_Ok D) {T : sg_T} (hT : ∀ s k v, s < 6 → k ≤ 20 → sg_F D T s k = some v → T s k = some v) {s k : Nat} {v : Int32} (hs : s < 6) (hk : k ≤ 15) (h : sg_Is D s k v) : T s k = some v := by
  obtain ⟨n, h⟩ := h
  exact sg_close hD hT n (fun _ => 0) 0 s k v hs (fun i hi => absurd hi (by omega)) (fun i j hi => absurd hi (by omega)) (fun i hi => absurd hi (by omega)) (by omega) h
end
section
/-! THE GRAPH: every node x has a name nm x = (owner, own index); sg_Rep: a node stands for a place of a sequence -/
theorem sg_Tb_up {D : sg_D} (hD : sg_Ok D) {n m s k : Nat} {v : Int32} (h : n ≤ m) (hs : s < 6) (hv : sg_Tb D n s k = some v) : sg_Tb D m s k = some v := sg_Tb_le hD h s k v hs hv
/-- there at round n -/
def sg_Hs (D : sg_D) (n s k : Nat) : Prop := ∃ w, sg_Tb D n s k = some w
theorem sg_Hs.up {D : sg_D} (hD : sg_Ok D) {n m s k : Nat} (h : n ≤ m) (hs : s < 6) (hv : sg_Hs D n s k) : sg_Hs D m s k := by
  obtain ⟨w, hw⟩ := hv
  exact ⟨w, sg_Tb_up hD h hs hw⟩
theorem sg_Hs.G {D : sg_D} {n s k : Nat} (h : sg_Hs D (n + 1) s k) : ∃ v, sg_G D (sg_Tb D n) s k (sg_kd D s) = some v := by
  obtain ⟨w, hw⟩ := h
  exact ⟨w, (sg_F_some hw).2⟩
theorem sg_Hs.pre {D : sg_D} (hD : sg_Ok D) {n s k j : Nat} (hs : s < 6) (hj : j ≤ k) (h : sg_Hs D n s k) : sg_Hs D n s j := by
  obtain ⟨w, hw⟩ := h
  exact sg_Tb_pre hD hs (k - j) j w (by rw [show j + (k - j) = k by omega]; exact hw)
/-- partial sums and places of a merge, at some round -/
def sg_IsS (D : sg_D) (t n : Nat) (v : Int32) : Prop := ∃ N, sg_sum (sg_Tb D N) t n = some v
def sg_IsW (D : sg_D) (t u n : Nat) (pq : Nat × Nat) : Prop := ∃ N, sg_wk (sg_Tb D N) t u n = some pq
theorem sg_IsS.zero {D : sg_D} {t : Nat} : sg_IsS D t 0 0 := ⟨0, rfl⟩
theorem sg_IsS.up {D : sg_D} (hD : sg_Ok D) {t n N M : Nat} {v : Int32} (ht : t < 6) (h : N ≤ M) (hv : sg_sum (sg_Tb D N) t n = some v) : sg_sum (sg_Tb D M) t n = some v := sg_sum_mono n v (fun _ _ _ hw => sg_Tb_up hD h ht hw) hv
theorem sg_IsW.up {D : sg_D} (hD : sg_Ok D) {t u n N M : Nat} {pq : Nat × Nat} (ht : t < 6) (hu : u < 6) (h : N ≤ M) (hv : sg_wk (sg_Tb D N) t u n = some pq) : sg_wk (sg_Tb D M) t u n = some pq := sg_wk_mono n pq (fun _ _ _ hw => sg_Tb_up hD h ht hw) (fun _ _ _ hw => sg_Tb_up hD h hu hw) hv
theorem sg_IsS.succ {D : sg_D} (hD : sg_Ok D) {t n : Nat} {x y : Int32} (ht : t < 6) (h : sg_IsS D t n x) (hy : sg_Is D t n y) : sg_IsS D t (n + 1) (x + y) := by
  obtain ⟨N, h⟩ := h
  obtain ⟨M, hy⟩ := hy
  refine ⟨max N M, ?_⟩
  unfold sg_sum
  rw [sg_IsS.up hD ht (Nat.le_max_left N M) h, sg_Tb_up hD (Nat.le_max_right N M) ht hy]
  rfl
theorem sg_IsW.zero {D : sg_D} {t u : Nat} : sg_IsW D t u 0 (0, 0) := ⟨0, rfl⟩
theorem sg_IsW.succ {D : sg_D} (hD : sg_Ok D) {t u n : Nat} {pq : Nat × Nat} {x y : Int32} (ht : t < 6) (hu : u < 6) (h : sg_IsW D t u n pq) (hx : sg_Is D t pq.1 x) (hy : sg_Is D u pq.2 y) : sg_IsW D t u (n + 1) (sg_nx pq x y) := by
  obtain ⟨N, h⟩ := h
  obtain ⟨M, hx⟩ := hx
  obtain ⟨L, hy⟩ := hy
  have h1 : N ≤ N + M + L := by omega
  have h2 : M ≤ N + M + L := by omega
  have h3 : L ≤ N + M + L := by omega
  exact ⟨N + M + L, sg_wk_mk (sg_IsW.up hD ht hu h1 h) (sg_Tb_up hD h2 ht hx) (sg_Tb_up hD h3 hu hy)⟩
theorem sg_IsW.one {D : sg_D} (hD : sg_Ok D) {t u n : Nat} {pq rs : Nat × Nat} (ht : t < 6) (hu : u < 6) (h : sg_IsW D t u n pq) (h' : sg_IsW D t u n rs) : pq = rs := by
  obtain ⟨N, h⟩ := h
  obtain ⟨M, h'⟩ := h'
  have e1 := sg_IsW.up hD ht hu (Nat.le_max_left N M) h
  have e2 := sg_IsW.up hD ht hu (Nat.le_max_right N M) h'
  rw [e1] at e2
  exact Option.some.inj e2
/-- the element ahead -/
def sg_Ah (D : sg_D) (s k : Nat) : Prop := k = 0 ∨ ∃ w, sg_Is D s (k - 1) w
theorem sg_Is.mk {D : sg_D} (hD : sg_Ok D) {s k N : Nat} {v : Int32} (hs : s < 6) (ha : sg_Ah D s k) (h : ∀ M, N ≤ M → sg_G D (sg_Tb D M) s k (sg_kd D s) = some v) : sg_Is D s k v := by
  rcases ha with ha | ⟨w, M, hw⟩
  · exact ⟨N + 1, sg_F_mk (Or.inl ha) (h N (Nat.le_refl _))⟩
  · exact ⟨max N M + 1, sg_F_mk (Or.inr ⟨w, sg_Tb_up hD (Nat.le_max_right N M) hs hw⟩) (h _ (Nat.le_max_left N M))⟩
theorem sg_Is.k0 {D : sg_D} (hD : sg_Ok D) {s k : Nat} (hs : s < 6) (hk : sg_kd D s = 0) (ha : sg_Ah D s k) : sg_Is D s k (sg_na D s + nI k * sg_nb D s) := sg_Is.mk (N := 0) hD hs ha (fun M _ => by rw [hk]; rfl)
theorem sg_Is.k1 {D : sg_D} (hD : sg_Ok D) {s : Nat} (hs : s < 6) (hk : sg_kd D s = 1) : sg_Is D s 0 (sg_na D s) := sg_Is.mk (N := 0) hD hs (Or.inl rfl) (fun M _ => by rw [hk]; rfl)
theorem sg_Is.k1s {D : sg_D} (hD : sg_Ok D) {s : Nat} (hs : s < 6) (hk : sg_kd D s = 1) : ∀ (k : Nat) (v : Int32), sg_Is D (sg_sb D s) k v → sg_Is D s (k + 1) v := by
  have hb := (hD.b hs (by rw [hk]; simp [sg_usB])).1
  intro k
  induction k with
  | zero =>
    intro v h
    obtain ⟨N, h⟩ := h
    exact sg_Is.mk (N := N) hD hs (Or.inr ⟨_, sg_Is.k1 hD hs hk⟩) (fun M hM => by rw [hk]; exact sg_Tb_up hD hM hb h)
  | succ k ih =>
    intro v h
    obtain ⟨w, hw⟩ := h.pre hD hb (Nat.le_succ k)
    obtain ⟨N, h⟩ := h
    exact sg_Is.mk (N := N) hD hs (Or.inr ⟨w, ih w hw⟩) (fun M hM => by rw [hk]; exact sg_Tb_up hD hM hb h)
theorem sg_Is.k2 {D : sg_D} (hD : sg_Ok D) {s : Nat} (hs : s < 6) (hk : sg_kd D s = 2) : ∀ (k : Nat) (v : Int32), sg_Is D (sg_sa D s) (k + 1) v → sg_Is D s k v := by
  have hb := (hD.a hs (by rw [hk]; simp [sg_usA])).1
  intro k
  induction k with
  | zero =>
    intro v h
    obtain ⟨N, h⟩ := h
    exact sg_Is.mk (N := N) hD hs (Or.inl rfl) (fun M hM => by rw [hk]; exact sg_Tb_up hD hM hb h)
  | succ k ih =>
    intro v h
    obtain ⟨w, hw⟩ := h.pre hD hb (Nat.le_succ (k + 1))
    obtain ⟨N, h⟩ := h
    exact sg_Is.mk (N := N) hD hs (Or.inr ⟨w, ih w hw⟩) (fun M hM => by rw [hk]; exact sg_Tb_up hD hM hb h)
theorem sg_Is.k3 {D : sg_D} (hD : sg_Ok D) {s k : Nat} {x y : Int32} (hs : s < 6) (hk : sg_kd D s = 3) (ha : sg_Ah D s k) (hx : sg_Is D (sg_sa D s) k x) (hy : sg_Is D (sg_sb D s) k y) : sg_Is D s k (x + y) := by
  have h1 := (hD.a hs (by rw [hk]; simp [sg_usA])).1
  have h2 := (hD.b hs (by rw [hk]; simp [sg_usB])).1
  obtain ⟨N, hx⟩ := hx
  obtain ⟨M, hy⟩ := hy
  refine sg_Is.mk (N := max N M) hD hs ha (fun L hL => ?_)
  rw [hk]
  unfold sg_G
  rw [sg_Tb_up hD (Nat.le_trans (Nat.le_max_left N M) hL) h1 hx, sg_Tb_up hD (Nat.le_trans (Nat.le_max_right N M) hL) h2 hy]
  rfl
theorem sg_Is.k4 {D : sg_D} (hD : sg_Ok D) {s k : Nat} {x y : Int32} (hs : s < 6) (hk : sg_kd D s = 4) (ha : sg_Ah D s k) (hx : sg_Is D (sg_sa D s) k x) (hy : sg_Is D (sg_sb D s) k y) : sg_Is D s k (x * y) := by
  have h1 := (hD.a hs (by rw [hk]; simp [sg_usA])).1
  have h2 := (hD.b hs (by rw [hk]; simp [sg_usB])).1
  obtain ⟨N, hx⟩ := hx
  obtain ⟨M, hy⟩ := hy
  refine sg_Is.mk (N := max N M) hD hs ha (fun L hL => ?_)
  rw [hk]
  unfold sg_G
  rw [sg_Tb_up hD (Nat.le_trans (Nat.le_max_left N M) hL) h1 hx, sg_Tb_up hD (Nat.le_trans (Nat.le_max_right N M) hL) h2 hy]
  rfl
theorem sg_Is.k5 {D : sg_D} (hD : sg_Ok D) {s k : Nat} {y : Int32} (hs : s < 6) (hk : sg_kd D s = 5) (ha : sg_Ah D s k) (hy : sg_Is D (sg_sb D s) k y) : sg_Is D s k (sg_na D s * y) := by
  have h2 := (hD.b hs (by rw [hk]; simp [sg_usB])).1
  obtain ⟨M, hy⟩ := hy
  refine sg_Is.mk (N := M) hD hs ha (fun L hL => ?_)
  rw [hk]
  unfold sg_G
  rw [sg_Tb_up hD hL h2 hy]
  rfl
theorem sg_Is.k6 {D : sg_D} (hD : sg_Ok D) {s k : Nat} {y : Int32} (hs : s < 6) (hk : sg_kd D s = 6) (ha : sg_Ah D s k) (hy : sg_IsS D (sg_sa D s) (k + 1) y) : sg_Is D s k y := by
  have h2 := (hD.a hs (by rw [hk]; simp [sg_usA])).1
  obtain ⟨M, hy⟩ := hy
  refine sg_Is.mk (N := M) hD hs ha (fun L hL => ?_)
  rw [hk]
  exact sg_IsS.up hD h2 hL hy
theorem sg_Is.k7e {D : sg_D} (hD : sg_Ok D) {s k : Nat} {y : Int32} (hs : s < 6) (hk : sg_kd D s = 7) (ha : sg_Ah D s k) (he : k % 2 = 0) (hy : sg_Is D (sg_sa D s) (k / 2) y) : sg_Is D s k y := by
  have h2 := (hD.a hs (by rw [hk]; simp [sg_usA])).1
  obtain ⟨M, hy⟩ := hy
  refine sg_Is.mk (N := M) hD hs ha (fun L hL => ?_)
  rw [hk]
  unfold sg_G
  rw [if_pos he]
  exact sg_Tb_up hD hL h2 hy
theorem sg_Is.k7o {D : sg_D} (hD : sg_Ok D) {s k : Nat} {y : Int32} (hs : s < 6) (hk : sg_kd D s = 7) (ha : sg_Ah D s k) (he : k % 2 = 1) (hy : sg_Is D (sg_sb D s) (k / 2) y) : sg_Is D s k y := by
  have h2 := (hD.b hs (by rw [hk]; simp [sg_usB])).1
  obtain ⟨M, hy⟩ := hy
  refine sg_Is.mk (N := M) hD hs ha (fun L hL => ?_)
  rw [hk]
  show (if k % 2 = 0 then sg_Tb D L (sg_sa D s) (k / 2) else sg_Tb D L (sg_sb D s) (k / 2)) = some y
  rw [if_neg (by omega)]
  exact sg_Tb_up hD hL h2 hy
theorem sg_Is.k8 {D : sg_D} (hD : sg_Ok D) {s k : Nat} {x y : Int32} {pq : Nat × Nat} (hs : s < 6) (hk : sg_kd D s = 8) (ha : sg_Ah D s k) (hw : sg_IsW D (sg_sa D s) (sg_sb D s) k pq) (hx : sg_Is D (sg_sa D s) pq.1 x) (hy : sg_Is D (sg_sb D s) pq.2 y) : sg_Is D s k (sg_min x y) := by
  have h1 := (hD.a hs (by rw [hk]; simp [sg_usA])).1
  have h2 := (hD.b hs (by rw [hk]; simp [sg_usB])).1
  obtain ⟨N, hx⟩ := hx
  obtain ⟨M, hy⟩ := hy
  obtain ⟨K, hw⟩ := hw
  refine sg_Is.mk (N := N + M + K) hD hs ha (fun L hL => ?_)
  have q1 : N ≤ L := by omega
  have q2 : M ≤ L := by omega
  have q3 : K ≤ L := by omega
  rw [hk]
  unfold sg_G
  rw [sg_IsW.up hD h1 h2 q3 hw]
  show sg_2 sg_min (sg_Tb D L (sg_sa D s) pq.1) (sg_Tb D L (sg_sb D s) pq.2) = _
  rw [sg_Tb_up hD q1 h1 hx, sg_Tb_up hD q2 h2 hy]
  rfl
/-! what an element that is there says of those that it needs -/
theorem sg_Hs.k1 {D : sg_D} {n s k : Nat} (hk : sg_kd D s = 1) (h : sg_Hs D (n + 1) s (k + 1)) : sg_Hs D n (sg_sb D s) k := by
  obtain ⟨v, h⟩ := h.G
  rw [hk] at h
  exact ⟨v, h⟩
theorem sg_Hs.k2 {D : sg_D} {n s k : Nat} (hk : sg_kd D s = 2) (h : sg_Hs D (n + 1) s k) : sg_Hs D n (sg_sa D s) (k + 1) := by
  obtain ⟨v, h⟩ := h.G
  rw [hk] at h
  exact ⟨v, h⟩
theorem sg_Hs.k34 {D : sg_D} {n s k : Nat} (hk : sg_kd D s = 3 ∨ sg_kd D s = 4) (h : sg_Hs D (n + 1) s k) : sg_Hs D n (sg_sa D s) k ∧ sg_Hs D n (sg_sb D s) k := by
  obtain ⟨v, h⟩ := h.G
  rcases hk with hk | hk <;> rw [hk] at h <;> obtain ⟨a, b, ha, hb, -⟩ := sg_2_some h <;> exact ⟨⟨a, ha⟩, ⟨b, hb⟩⟩
theorem sg_Hs.k5 {D : sg_D} {n s k : Nat} (hk : sg_kd D s = 5) (h : sg_Hs D (n + 1) s k) : sg_Hs D n (sg_sb D s) k := by
  obtain ⟨v, h⟩ := h.G
  rw [hk] at h
  obtain ⟨a, b, ha, hb, -⟩ := sg_2_some h
  exact ⟨b, hb⟩
theorem sg_Hs.k6 {D : sg_D} {n s k : Nat} (hk : sg_kd D s = 6) (h : sg_Hs D (n + 1) s k) : sg_Hs D n (sg_sa D s) k := by
  obtain ⟨v, h⟩ := h.G
  rw [hk] at h
  have h : sg_2 (fun x y => x + y) (sg_sum (sg_Tb D n) (sg_sa D s) k) (sg_Tb D n (sg_sa D s) k) = some v := h
  obtain ⟨a, b, ha, hb, -⟩ := sg_2_some h
  exact ⟨b, hb⟩
theorem sg_Hs.k7e {D : sg_D} {n s k : Nat} (hk : sg_kd D s = 7) (he : k % 2 = 0) (h : sg_Hs D (n + 1) s k) : sg_Hs D n (sg_sa D s) (k / 2) := by
  obtain ⟨v, h⟩ := h.G
  rw [hk] at h
  unfold sg_G at h
  rw [if_pos he] at h
  exact ⟨v, h⟩
theorem sg_Hs.k7o {D : sg_D} {n s k : Nat} (hk : sg_kd D s = 7) (he : k % 2 = 1) (h : sg_Hs D (n + 1) s k) : sg_Hs D n (sg_sb D s) (k / 2) := by
  obtain ⟨v, h⟩ := h.G
  rw [hk] at h
  have h : (if k % 2 = 0 then sg_Tb D n (sg_sa D s) (k / 2) else sg_Tb D n (sg_sb D s) (k / 2)) = some v := h
  rw [if_neg (by omega)] at h
  exact ⟨v, h⟩
theorem sg_Hs.k8 {D : sg_D} (hD : sg_Ok D) {n s k : Nat} {pq : Nat × Nat} (hs : s < 6) (hk : sg_kd D s = 8) (hw : sg_IsW D (sg_sa D s) (sg_sb D s) k pq) (h : sg_Hs D (n + 1) s k) : sg_Hs D n (sg_sa D s) pq.1 ∧ sg_Hs D n (sg_sb D s) pq.2 := by
  have h1 := (hD.a hs (by rw [hk]; simp [sg_usA])).1
  have h2 := (hD.b hs (by rw [hk]; simp [sg_usB])).1
  obtain ⟨v, h⟩ := h.G
  rw [hk] at h
  unfold sg_G at h
  cases hq : sg_wk (sg_Tb D n) (sg_sa D s) (sg_sb D s) k with
  | none => rw [hq] at h; exact absurd h (by simp)
  | some rs =>
    rw [hq] at h
    have e := sg_IsW.one hD h1 h2 hw ⟨n, hq⟩
    rw [e]
    have h : sg_2 sg_min (sg_Tb D n (sg_sa D s) rs.1) (sg_Tb D n (sg_sb D s) rs.2) = some v := h
    obtain ⟨a, b, ha, hb, -⟩ := sg_2_some h
    exact ⟨⟨a, ha⟩, ⟨b, hb⟩⟩
/-! ===== nodes ===== -/
def sg_R (D : sg_D) (nm : Nat → Nat × Nat) (st : Nat → Nat) : Nat → Nat → Nat → Nat → Prop
  | 0, x, s, k => s < 6 ∧ nm x = (s, k)
  | n + 1, x, s, k => s < 6 ∧ (nm x = (s, k) ∨ (sg_kd D s = 1 ∧ ∃ k', k = k' + 1 ∧ sg_R D nm st n x (sg_sb D s) k') ∨ (sg_kd D s = 2 ∧ st s = 10 ∧ sg_R D nm st n x (sg_sa D s) (k + 1)))
/-- node x stands for place k of sequence s: by name, behind a CONS, or behind a TAIL that is a link already -/
def sg_Rep (D : sg_D) (nm : Nat → Nat × Nat) (st : Nat → Nat) (tp x s k : Nat) : Prop := x < tp ∧ ∃ n, sg_R D nm st n x s k
theorem sg_Rep.six {D : sg_D} {nm : Nat → Nat × Nat} {st : Nat → Nat} {tp x s k : Nat} (h : sg_Rep D nm st tp x s k) : s < 6 := by
  obtain ⟨-, n, h⟩ := h
  cases n with
  | zero => exact h.1
  | succ n => exact h.1
theorem sg_Rep.nm {D : sg_D} {nm : Nat → Nat × Nat} {st : Nat → Nat} {tp x s k : Nat} (hs : s < 6) (hx : x < tp) (h : nm x = (s, k)) : sg_Rep D nm st tp x s k := ⟨hx, 0, hs, h⟩
theorem sg_Rep.cons {D : sg_D} {nm : Nat → Nat × Nat} {st : Nat → Nat} {tp x s k : Nat} (hs : s < 6) (hk : sg_kd D s = 1) (h : sg_Rep D nm st tp x (sg_sb D s) k) : sg_Rep D nm st tp x s (k + 1) := by
  obtain ⟨hx, n, h⟩ := h
  exact ⟨hx, n + 1, hs, Or.inr (Or.inl ⟨hk, k, rfl, h⟩)⟩
theorem sg_Rep.tail {D : sg_D} {nm : Nat → Nat × Nat} {st : Nat → Nat} {tp x s k : Nat} (hs : s < 6) (hk : sg_kd D s = 2) (h10 : st s = 10) (h : sg_Rep D nm st tp x (sg_sa D s) (k + 1)) : sg_Rep D nm st tp x s k := by
  obtain ⟨hx, n, h⟩ := h
  exact ⟨hx, n + 1, hs, Or.inr (Or.inr ⟨hk, h10, h⟩)⟩
theorem sg_Rep.ind {D : sg_D} {nm : Nat → Nat × Nat} {st : Nat → Nat} {tp x : Nat} {M : Nat → Nat → Prop} (h0 : ∀ s k, s < 6 → nm x = (s, k) → M s k) (h1 : ∀ s k, s < 6 → sg_kd D s = 1 → sg_Rep D nm st tp x (sg_sb D s) k → M (sg_sb D s) k → M s (k + 1)) (h2 : ∀ s k, s < 6 → sg_kd D s = 2 → st s = 10 → sg_Rep D nm st tp x (sg_sa D s) (k + 1) → M (sg_sa D s) (k + 1) → M s k) : ∀ {s k : Nat}, sg_Rep D nm st tp x s k → M s k := by
  intro s k h
  obtain ⟨hx, n, h⟩ := h
  induction n generalizing s k with
  | zero => exact h0 s k h.1 h.2
  | succ n ih =>
    obtain ⟨hs, h | ⟨hk, k', rfl, h⟩ | ⟨hk, h10, h⟩⟩ := h
    · exact h0 s k hs h
    · exact h1 s k' hs hk ⟨hx, n, h⟩ (ih h)
    · exact h2 s k hs hk h10 ⟨hx, n, h⟩ (ih h)
theorem sg_Rep.split {D : sg_D} {nm : Nat → Nat × Nat} {st : Nat → Nat} {tp x s k : Nat} (h : sg_Rep D nm st tp x s k) : s < 6 ∧ (nm x = (s, k) ∨ (sg_kd D s = 1 ∧ ∃ k', k = k' + 1 ∧ sg_Rep D nm st tp x (sg_sb D s) k') ∨ (sg_kd D s = 2 ∧ st s = 10 ∧ sg_Rep D nm st tp x (sg_sa D s) (k + 1))) := by
  obtain ⟨hx, n, h⟩ := h
  cases n with
  | zero => exact ⟨h.1, Or.inl h.2⟩
  | succ n =>
    obtain ⟨hs, h | ⟨hk, k', rfl, h⟩ | ⟨hk, h10, h⟩⟩ := h
    · exact ⟨hs, Or.inl h⟩
    · exact ⟨hs, Or.inr (Or.inl ⟨hk, k', rfl, hx, n, h⟩)⟩
    · exact ⟨hs, Or.inr (Or.inr ⟨hk, h10, hx, n, h⟩)⟩
/-- nothing is lost when nodes are added and tails become links -/
theorem sg_Rep.ext {D : sg_D} {nm nm' : Nat → Nat × Nat} {st st' : Nat → Nat} {tp tp' x s k : Nat} (hn : ∀ y, y < tp → nm' y = nm y) (h10 : ∀ t, t < 6 → st t = 10 → st' t = 10) (ht : tp ≤ tp') (h : sg_Rep D nm st tp x s k) : sg_Rep D nm' st' tp' x s k := by
  have hx := h.1
  exact h.ind (M := fun s k => sg_Rep D nm' st' tp' x s k) (fun s k hs e => sg_Rep.nm hs (Nat.lt_of_lt_of_le hx ht) (by rw [hn x hx]; exact e)) (fun s k hs hk _ ih => sg_Rep.cons hs hk ih) (fun s k hs hk h1 _ ih => sg_Rep.tail hs hk (h10 s hs h1) ih)
/-- a suspended computation of kind c, owner o, own index i -/
def sg_Su (D : sg_D) (nm : Nat → Nat × Nat) (st : Nat → Nat) (tp : Nat) (c o i : Nat) (n p : Int32) (l r : Nat) : Prop := match c with
  | 0 => n = sg_na D o + nI i * sg_nb D o ∧ p = sg_nb D o
  | 2 => i = 0 ∧ sg_Rep D nm st tp l (sg_sa D o) 0
  | 3 => sg_Rep D nm st tp l (sg_sa D o) i ∧ sg_Rep D nm st tp r (sg_sb D o) i
  | 4 => sg_Rep D nm st tp l (sg_sa D o) i ∧ sg_Rep D nm st tp r (sg_sb D o) i
  | 5 => n = sg_na D o ∧ sg_Rep D nm st tp l (sg_sb D o) i
  | 6 => sg_IsS D (sg_sa D o) i n ∧ sg_Rep D nm st tp l (sg_sa D o) i
  | 7 => (i % 2 = 0 → sg_Rep D nm st tp l (sg_sa D o) (i / 2) ∧ sg_Rep D nm st tp r (sg_sb D o) (i / 2)) ∧ (i % 2 = 1 → sg_Rep D nm st tp l (sg_sb D o) (i / 2) ∧ sg_Rep D nm st tp r (sg_sa D o) (i / 2 + 1))
  | 8 => ∃ pq, sg_IsW D (sg_sa D o) (sg_sb D o) i pq ∧ sg_Rep D nm st tp l (sg_sa D o) pq.1 ∧ sg_Rep D nm st tp r (sg_sb D o) pq.2
  | _ => False
theorem sg_Su.map {D : sg_D} {nm nm' : Nat → Nat × Nat} {st st' : Nat → Nat} {tp tp' : Nat} {c o i : Nat} {n p : Int32} {l r l' r' : Nat} (hl : ∀ s k, sg_Rep D nm st tp l s k → sg_Rep D nm' st' tp' l' s k) (hr : ∀ s k, sg_Rep D nm st tp r s k → sg_Rep D nm' st' tp' r' s k) (h : sg_Su D nm st tp c o i n p l r) : sg_Su D nm' st' tp' c o i n p l' r' := by
  unfold sg_Su at h ⊢
  split at h
  · exact h
  · exact ⟨h.1, hl _ _ h.2⟩
  · exact ⟨hl _ _ h.1, hr _ _ h.2⟩
  · exact ⟨hl _ _ h.1, hr _ _ h.2⟩
  · exact ⟨h.1, hl _ _ h.2⟩
  · exact ⟨h.1, hl _ _ h.2⟩
  · exact ⟨fun e => ⟨hl _ _ (h.1 e).1, hr _ _ (h.1 e).2⟩, fun e => ⟨hl _ _ (h.2 e).1, hr _ _ (h.2 e).2⟩⟩
  · obtain ⟨pq, h1, h2, h3⟩ := h
    exact ⟨pq, h1, hl _ _ h2, hr _ _ h3⟩
  · exact h
/-- a finished cell -/
def sg_Ce (D : sg_D) (nm : Nat → Nat × Nat) (st : Nat → Nat) (tp : Nat) (o i : Nat) (n : Int32) (l : Nat) : Prop := sg_kd D o ≠ 2 ∧ sg_Is D o i n ∧ ((sg_kd D o = 1 ∧ i = 0 ∧ sg_Rep D nm st tp l (sg_sb D o) 0) ∨ (sg_kd D o ≠ 1 ∧ nm l = (o, i + 1)))
/-- a link -/
def sg_Li (D : sg_D) (nm : Nat → Nat × Nat) (st : Nat → Nat) (tp : Nat) (o i l : Nat) : Prop := sg_kd D o = 2 ∧ i = 0 ∧ st l = 9 ∧ sg_Rep D nm st tp l (sg_sa D o) 1
def sg_No (D : sg_D) (nm : Nat → Nat × Nat) (st : Nat → Nat) (nu sp : Nat → Int32) (lf rt : Nat → Nat) (tp x : Nat) : Prop :=
  (st x = 9 ∧ sg_Ce D nm st tp (nm x).1 (nm x).2 (nu x) (lf x)) ∨ (st x = 10 ∧ sg_Li D nm st tp (nm x).1 (nm x).2 (lf x)) ∨ (st x = sg_kd D (nm x).1 ∧ sg_Su D nm st tp (st x) (nm x).1 (nm x).2 (nu x) (sp x) (lf x) (rt x))
/-- the whole graph -/
def sg_Inv (D : sg_D) (nm : Nat → Nat × Nat) (st : Nat → Nat) (nu sp : Nat → Int32) (lf rt : Nat → Nat) (tp : Nat) : Prop :=
  6 ≤ tp ∧ (∀ s, s < 6 → nm s = (s, 0)) ∧ (∀ x, x < tp → (nm x).1 < 6 ∧ (nm x).2 ≤ 22 ∧ lf x < tp ∧ rt x < tp) ∧ (∀ x y, x < tp → y < tp → nm x = nm y → x = y) ∧ (∀ x i, x < tp → (nm x).2 = i + 1 → ∃ y, y < tp ∧ nm y = ((nm x).1, i) ∧ st y = 9) ∧ ∀ x, x < tp → sg_No D nm st nu sp lf rt tp x
section
variable {D : sg_D} {nm : Nat → Nat × Nat} {st : Nat → Nat} {nu sp : Nat → Int32} {lf rt : Nat → Nat} {tp : Nat}
theorem sg_Inv.six (h : sg_Inv D nm st nu sp lf rt tp) : 6 ≤ tp := h.1
theorem sg_Inv.root (h : sg_Inv D nm st nu sp lf rt tp) {s : Nat} (hs : s < 6) : nm s = (s, 0) := h.2.1 s hs
theorem sg_Inv.rng (h : sg_Inv D nm st nu sp lf rt tp) {x : Nat} (hx : x < tp) : (nm x).1 < 6 ∧ (nm x).2 ≤ 22 ∧ lf x < tp ∧ rt x < tp := h.2.2.1 x hx
theorem sg_Inv.inj (h : sg_Inv D nm st nu sp lf rt tp) {x y : Nat} (hx : x < tp) (hy : y < tp) (e : nm x = nm y) : x = y := h.2.2.2.1 x y hx hy e
theorem sg_Inv.prev (h : sg_Inv D nm st nu sp lf rt tp) {x i : Nat} (hx : x < tp) (e : (nm x).2 = i + 1) : ∃ y, y < tp ∧ nm y = ((nm x).1, i) ∧ st y = 9 := h.2.2.2.2.1 x i hx e
theorem sg_Inv.no (h : sg_Inv D nm st nu sp lf rt tp) {x : Nat} (hx : x < tp) : sg_No D nm st nu sp lf rt tp x := h.2.2.2.2.2 x hx
theorem sg_Su.le {c o i : Nat} {n p : Int32} {l r : Nat} (h : sg_Su D nm st tp c o i n p l r) : c ≤ 8 ∧ c ≠ 1 := by
  unfold sg_Su at h
  split at h <;> first | exact ⟨by omega, by omega⟩ | exact absurd h (by simp)
/-- what a node is, by its sort -/
theorem sg_Inv.ce (h : sg_Inv D nm st nu sp lf rt tp) {x : Nat} (hx : x < tp) (e : st x = 9) : sg_Ce D nm st tp (nm x).1 (nm x).2 (nu x) (lf x) := by
  rcases h.no hx with ⟨-, q⟩ | ⟨q, -⟩ | ⟨-, q⟩
  · exact q
  · omega
  · have := q.le
    omega
theorem sg_Inv.li (h : sg_Inv D nm st nu sp lf rt tp) {x : Nat} (hx : x < tp) (e : st x = 10) : sg_Li D nm st tp (nm x).1 (nm x).2 (lf x) := by
  rcases h.no hx with ⟨q, -⟩ | ⟨-, q⟩ | ⟨-, q⟩
  · omega
  · exact q
  · have := q.le
    omega
theorem sg_Inv.su (h : sg_Inv D nm st nu sp lf rt tp) {x : Nat} (hx : x < tp) (e : st x ≤ 8) : st x = sg_kd D (nm x).1 ∧ sg_Su D nm st tp (st x) (nm x).1 (nm x).2 (nu x) (sp x) (lf x) (rt x) := by
  rcases h.no hx with ⟨q, -⟩ | ⟨q, -⟩ | q
  · omega
  · omega
  · exact q
theorem sg_Inv.le10 (h : sg_Inv D nm st nu sp lf rt tp) {x : Nat} (hx : x < tp) : st x ≤ 10 := by
  rcases h.no hx with ⟨q, -⟩ | ⟨q, -⟩ | ⟨-, q⟩
  · omega
  · omega
  · have := q.le
    omega
/-- two nodes of one place: none is suspended while the other is a cell -/
theorem sg_Rep.apart (hI : sg_Inv D nm st nu sp lf rt tp) {x c s k : Nat} (hx : sg_Rep D nm st tp x s k) (hc : sg_Rep D nm st tp c s k) (h8 : st x ≤ 8) (h9 : st c = 9) : False := by
  have hxt := hx.1
  revert hc
  refine hx.ind (M := fun s k => sg_Rep D nm st tp c s k → False) ?_ ?_ ?_
  · intro s k hs e hc
    obtain ⟨-, e' | ⟨hk, k', rfl, -⟩ | ⟨hk, h10, -⟩⟩ := hc.split
    · have := hI.inj hxt hc.1 (by rw [e, e'])
      subst this
      omega
    · obtain ⟨q1, q2⟩ := hI.su hxt h8
      rw [e] at q1
      have := q2.le
      have q1 : st x = sg_kd D s := q1
      omega
    · obtain ⟨q1, q2⟩ := hI.su hxt h8
      rw [e] at q1 q2
      have q1 : st x = sg_kd D s := q1
      rw [show st x = 2 by omega] at q2
      have q3 : k = 0 := q2.1
      subst q3
      have h6 := hI.six
      have := hI.inj hxt (y := s) (by omega) (by rw [e, hI.root hs])
      subst this
      omega
  · intro s k hs hk _ ih hc
    obtain ⟨-, e' | ⟨-, k', e, h⟩ | ⟨hk', -⟩⟩ := hc.split
    · obtain ⟨-, -, q⟩ := hI.ce hc.1 h9
      rw [e'] at q
      rcases q with ⟨-, q, -⟩ | ⟨q, -⟩
      · have q : k + 1 = 0 := q
        omega
      · exact q hk
    · have : k' = k := by omega
      subst this
      exact ih h
    · omega
  · intro s k hs hk h10 _ ih hc
    obtain ⟨-, e' | ⟨hk', -⟩ | ⟨-, -, h⟩⟩ := hc.split
    · obtain ⟨q, -⟩ := hI.ce hc.1 h9
      rw [e'] at q
      exact absurd hk q
    · omega
    · exact ih h
/-- behind a place there are cells -/
theorem sg_Rep.prev (hI : sg_Inv D nm st nu sp lf rt tp) {y s k : Nat} (h : sg_Rep D nm st tp y s (k + 1)) : ∃ c, st c = 9 ∧ sg_Rep D nm st tp c s k := by
  have hy := h.1
  have K : ∀ s k', sg_Rep D nm st tp y s k' → ∀ k, k' = k + 1 → ∃ c, st c = 9 ∧ sg_Rep D nm st tp c s k := by
    intro s k' h
    refine h.ind (M := fun s k' => ∀ k, k' = k + 1 → ∃ c, st c = 9 ∧ sg_Rep D nm st tp c s k) ?_ ?_ ?_
    · intro s k' hs e k ek
      subst ek
      obtain ⟨c, h1, h2, h3⟩ := hI.prev hy (i := k) (by rw [e])
      refine ⟨c, h3, sg_Rep.nm hs h1 ?_⟩
      rw [h2, e]
    · intro s k' hs hk _ ih k ek
      have ek : k' = k := by omega
      subst ek
      cases k' with
      | zero =>
        have h6 := hI.six
        refine ⟨s, ?_, sg_Rep.nm hs (by omega) (hI.root hs)⟩
        rcases hI.no (x := s) (by omega) with ⟨q, -⟩ | ⟨-, q, -⟩ | ⟨q1, q2⟩
        · exact q
        · rw [hI.root hs] at q
          have q : sg_kd D s = 2 := q
          omega
        · rw [hI.root hs] at q1
          have q1 : st s = sg_kd D s := q1
          have := q2.le
          omega
      | succ k' =>
        obtain ⟨c, h1, h2⟩ := ih k' rfl
        exact ⟨c, h1, sg_Rep.cons hs hk h2⟩
    · intro s k' hs hk h10 _ ih k ek
      subst ek
      obtain ⟨c, h1, h2⟩ := ih (k + 1) rfl
      exact ⟨c, h1, sg_Rep.tail hs hk h10 h2⟩
  exact K s (k + 1) h k rfl
theorem sg_Rep.cells (hI : sg_Inv D nm st nu sp lf rt tp) {s : Nat} : ∀ (d k y : Nat), sg_Rep D nm st tp y s (k + d + 1) → ∃ c, st c = 9 ∧ sg_Rep D nm st tp c s k := by
  intro d
  induction d with
  | zero => intro k y h; exact h.prev hI
  | succ d ih =>
    intro k y h
    obtain ⟨c, -, h1⟩ := sg_Rep.prev hI (k := k + d + 1) h
    exact ih k c h1
/-- a suspended node at a place: no node stands for a later one -/
theorem sg_Rep.last (hI : sg_Inv D nm st nu sp lf rt tp) {x y s j k : Nat} (hx : sg_Rep D nm st tp x s j) (h8 : st x ≤ 8) (hy : sg_Rep D nm st tp y s k) : k ≤ j := by
  rcases Nat.lt_or_ge j k with q | q
  · obtain ⟨c, h1, h2⟩ := sg_Rep.cells hI (k - j - 1) j y (by rw [show j + (k - j - 1) + 1 = k by omega]; exact hy)
    exact (hx.apart hI h2 h8 h1).elim
  · exact q
/-- what is followed -/
def sg_fo (st lf : Nat → Nat) (x : Nat) : Nat := if st x = 10 then lf x else x
theorem sg_fo_n10 (hI : sg_Inv D nm st nu sp lf rt tp) {x : Nat} (hx : x < tp) : st (sg_fo st lf x) ≠ 10 ∧ sg_fo st lf x < tp := by
  unfold sg_fo
  by_cases e : st x = 10
  · rw [if_pos e]
    obtain ⟨-, -, h9, h⟩ := hI.li hx e
    exact ⟨by omega, h.1⟩
  · rw [if_neg e]
    exact ⟨e, hx⟩
theorem sg_Rep.fo (hI : sg_Inv D nm st nu sp lf rt tp) {x s k : Nat} (h : sg_Rep D nm st tp x s k) : sg_Rep D nm st tp (sg_fo st lf x) s k := by
  have hx := h.1
  by_cases e : st x = 10
  · unfold sg_fo
    rw [if_pos e]
    obtain ⟨q1, q2, q3, q4⟩ := hI.li hx e
    refine h.ind (M := fun s k => sg_Rep D nm st tp (lf x) s k) ?_ (fun s k hs hk _ ih => sg_Rep.cons hs hk ih) (fun s k hs hk h1 _ ih => sg_Rep.tail hs hk h1 ih)
    intro s k hs en
    rw [en] at q1 q2 q4
    have q2 : k = 0 := q2
    subst q2
    have h6 := hI.six
    have := hI.inj hx (y := s) (by omega) (by rw [en, hI.root hs])
    subst this
    exact sg_Rep.tail hs q1 e q4
  · unfold sg_fo
    rw [if_neg e]
    exact h
/-- the rest of a cell stands for the next place -/
theorem sg_Rep.next (hI : sg_Inv D nm st nu sp lf rt tp) {x s k : Nat} (h : sg_Rep D nm st tp x s k) (h9 : st x = 9) : sg_Rep D nm st tp (lf x) s (k + 1) := by
  have hx := h.1
  obtain ⟨q1, q2, q3⟩ := hI.ce hx h9
  refine h.ind (M := fun s k => sg_Rep D nm st tp (lf x) s (k + 1)) ?_ (fun s k hs hk _ ih => sg_Rep.cons hs hk ih) (fun s k hs hk h1 _ ih => sg_Rep.tail hs hk h1 ih)
  intro s k hs en
  rw [en] at q3
  rcases q3 with ⟨q4, q5, q6⟩ | ⟨q4, q5⟩
  · have q5 : k = 0 := q5
    subst q5
    exact sg_Rep.cons hs q4 q6
  · exact sg_Rep.nm hs (hI.rng hx).2.2.1 q5
/-- a cell holds the element -/
theorem sg_Rep.is (hD : sg_Ok D) (hI : sg_Inv D nm st nu sp lf rt tp) {x s k : Nat} (h : sg_Rep D nm st tp x s k) (h9 : st x = 9) : sg_Is D s k (nu x) := by
  have hx := h.1
  obtain ⟨q1, q2, q3⟩ := hI.ce hx h9
  refine h.ind (M := fun s k => sg_Is D s k (nu x)) ?_ (fun s k hs hk _ ih => sg_Is.k1s hD hs hk k _ ih) (fun s k hs hk h1 _ ih => sg_Is.k2 hD hs hk k _ ih)
  intro s k hs en
  rw [en] at q2
  exact q2
/-- an element that is there makes its node's own one be there -/
theorem sg_Rep.hs (hD : sg_Ok D) {x s k : Nat} (h : sg_Rep D nm st tp x s k) : ∀ n, sg_Hs D n s k → sg_Hs D n (nm x).1 (nm x).2 := by
  refine h.ind (M := fun s k => ∀ n, sg_Hs D n s k → sg_Hs D n (nm x).1 (nm x).2) ?_ ?_ ?_
  · intro s k hs e n h
    rw [e]
    exact h
  · intro s k hs hk _ ih n h
    have hb := (hD.b hs (by rw [hk]; simp [sg_usB])).1
    cases n with
    | zero => obtain ⟨w, hw⟩ := h; exact absurd hw (by simp [sg_Tb])
    | succ n => exact ih _ ((sg_Hs.k1 hk h).up hD (Nat.le_succ n) hb)
  · intro s k hs hk _ _ ih n h
    have hb := (hD.a hs (by rw [hk]; simp [sg_usA])).1
    cases n with
    | zero => obtain ⟨w, hw⟩ := h; exact absurd hw (by simp [sg_Tb])
    | succ n => exact ih _ ((sg_Hs.k2 hk h).up hD (Nat.le_succ n) hb)
/-- the element ahead of a node's own -/
theorem sg_Inv.ah (hI : sg_Inv D nm st nu sp lf rt tp) {x : Nat} (hx : x < tp) : sg_Ah D (nm x).1 (nm x).2 := by
  cases e : (nm x).2 with
  | zero => exact Or.inl rfl
  | succ i =>
    obtain ⟨y, h1, h2, h3⟩ := hI.prev hx e
    obtain ⟨-, q, -⟩ := hI.ce h1 h3
    rw [h2] at q
    exact Or.inr ⟨nu y, q⟩
end
end
section
/-! MOVES OF THE GRAPH: followed links written back, a computation finished, a tail made a link -/
theorem sg_us {α : Type} (f : Nat → α) (k : Nat) (v : α) : va_up f k v k = v := by
  show (if k = k then v else f k) = v
  rw [if_pos rfl]
theorem sg_un {α : Type} {f : Nat → α} {k : Nat} {v : α} {j : Nat} (h : j ≠ k) : va_up f k v j = f j := by
  show (if j = k then v else f j) = f j
  rw [if_neg h]
section
variable {D : sg_D} {nm : Nat → Nat × Nat} {st : Nat → Nat} {nu sp : Nat → Int32} {lf rt : Nat → Nat} {tp : Nat}
theorem sg_Inv.setL (hI : sg_Inv D nm st nu sp lf rt tp) {x l : Nat} (hx : x < tp) (h8 : st x ≤ 8) (hl : l < tp) (hR : ∀ s k, sg_Rep D nm st tp (lf x) s k → sg_Rep D nm st tp l s k) : sg_Inv D nm st nu sp (va_up lf x l) rt tp := by
  refine ⟨hI.1, hI.2.1, fun y hy => ?_, hI.2.2.2.1, hI.2.2.2.2.1, fun y hy => ?_⟩
  · obtain ⟨h1, h2, h3, h4⟩ := hI.rng hy
    refine ⟨h1, h2, ?_, h4⟩
    by_cases e : y = x
    · subst e
      rw [sg_us]
      exact hl
    · rw [sg_un e]
      exact h3
  · by_cases e : y = x
    · subst e
      obtain ⟨h1, h2⟩ := hI.su hy h8
      refine Or.inr (Or.inr ⟨h1, ?_⟩)
      rw [sg_us]
      exact h2.map hR (fun _ _ h => h)
    · unfold sg_No
      rw [sg_un e]
      exact hI.no hy
theorem sg_Inv.setR (hI : sg_Inv D nm st nu sp lf rt tp) {x l : Nat} (hx : x < tp) (h8 : st x ≤ 8) (hl : l < tp) (hR : ∀ s k, sg_Rep D nm st tp (rt x) s k → sg_Rep D nm st tp l s k) : sg_Inv D nm st nu sp lf (va_up rt x l) tp := by
  refine ⟨hI.1, hI.2.1, fun y hy => ?_, hI.2.2.2.1, hI.2.2.2.2.1, fun y hy => ?_⟩
  · obtain ⟨h1, h2, h3, h4⟩ := hI.rng hy
    refine ⟨h1, h2, h3, ?_⟩
    by_cases e : y = x
    · subst e
      rw [sg_us]
      exact hl
    · rw [sg_un e]
      exact h4
  · by_cases e : y = x
    · subst e
      obtain ⟨h1, h2⟩ := hI.su hy h8
      refine Or.inr (Or.inr ⟨h1, ?_⟩)
      rw [sg_us]
      exact h2.map (fun _ _ h => h) hR
    · unfold sg_No
      rw [sg_un e]
      exact hI.no hy
/-- ready to be finished -/
def sg_Rd (st lf rt : Nat → Nat) (x : Nat) : Prop := st x = 0 ∨ (st x = 2 ∧ st (lf x) = 9 ∧ st (sg_fo st lf (lf (lf x))) = 9) ∨ ((st x = 5 ∨ st x = 6 ∨ st x = 7) ∧ st (lf x) = 9) ∨ ((st x = 3 ∨ st x = 4 ∨ st x = 8) ∧ st (lf x) = 9 ∧ st (rt x) = 9)
/-- what x waits for -/
def sg_Wt (D : sg_D) (nm : Nat → Nat × Nat) (st : Nat → Nat) (tp x w : Nat) : Prop := st w ≤ 8 ∧ ∃ s k, sg_Rep D nm st tp w s k ∧ (∀ n, sg_Hs D (n + 1) (nm x).1 (nm x).2 → sg_Hs D n s k) ∧ (k ≤ (nm x).2 ∨ k ≤ 1)
theorem sg_Inv.posL (hD : sg_Ok D) (hI : sg_Inv D nm st nu sp lf rt tp) {x : Nat} (hx : x < tp) (h8 : st x ≤ 8) (h0 : st x ≠ 0) : ∃ s k, sg_Rep D nm st tp (lf x) s k ∧ (∀ n, sg_Hs D (n + 1) (nm x).1 (nm x).2 → sg_Hs D n s k) ∧ (k ≤ (nm x).2 ∨ k ≤ 1) := by
  obtain ⟨hk, hs⟩ := hI.su hx h8
  have h6 := (hI.rng hx).1
  unfold sg_Su at hs
  split at hs
  · exact absurd (by assumption) h0
  · rename_i e
    have ha := (hD.a h6 (by rw [← hk, e]; simp [sg_usA])).1
    refine ⟨_, 0, hs.2, fun n h => ?_, Or.inl (Nat.zero_le _)⟩
    rw [hs.1] at h
    exact (sg_Hs.k2 (by rw [← hk, e]) h).pre hD ha (Nat.zero_le _)
  · rename_i e
    exact ⟨_, _, hs.1, fun n h => (sg_Hs.k34 (by rw [← hk, e]; simp) h).1, Or.inl (Nat.le_refl _)⟩
  · rename_i e
    exact ⟨_, _, hs.1, fun n h => (sg_Hs.k34 (by rw [← hk, e]; simp) h).1, Or.inl (Nat.le_refl _)⟩
  · rename_i e
    exact ⟨_, _, hs.2, fun n h => sg_Hs.k5 (by rw [← hk, e]) h, Or.inl (Nat.le_refl _)⟩
  · rename_i e
    exact ⟨_, _, hs.2, fun n h => sg_Hs.k6 (by rw [← hk, e]) h, Or.inl (Nat.le_refl _)⟩
  · rename_i e
    by_cases h2 : (nm x).2 % 2 = 0
    · exact ⟨_, _, (hs.1 h2).1, fun n h => sg_Hs.k7e (by rw [← hk, e]) h2 h, Or.inl (Nat.div_le_self _ _)⟩
    · have h2 : (nm x).2 % 2 = 1 := by omega
      exact ⟨_, _, (hs.2 h2).1, fun n h => sg_Hs.k7o (by rw [← hk, e]) h2 h, Or.inl (Nat.div_le_self _ _)⟩
  · rename_i e
    obtain ⟨pq, h1, h2, h3⟩ := hs
    have hle : pq.1 ≤ (nm x).2 := by
      obtain ⟨N, h1⟩ := h1
      exact (sg_wk_le _ _ h1).1
    exact ⟨_, _, h2, fun n h => (sg_Hs.k8 hD h6 (by rw [← hk, e]) h1 h).1, Or.inl hle⟩
  · exact hs.elim
theorem sg_Inv.posR (hD : sg_Ok D) (hI : sg_Inv D nm st nu sp lf rt tp) {x : Nat} (hx : x < tp) (h3 : st x = 3 ∨ st x = 4 ∨ st x = 8) : ∃ s k, sg_Rep D nm st tp (rt x) s k ∧ (∀ n, sg_Hs D (n + 1) (nm x).1 (nm x).2 → sg_Hs D n s k) ∧ (k ≤ (nm x).2 ∨ k ≤ 1) := by
  obtain ⟨hk, hs⟩ := hI.su hx (by omega)
  have h6 := (hI.rng hx).1
  rcases h3 with e | e | e
  · rw [e] at hs
    exact ⟨_, _, hs.2, fun n h => (sg_Hs.k34 (by rw [← hk, e]; simp) h).2, Or.inl (Nat.le_refl _)⟩
  · rw [e] at hs
    exact ⟨_, _, hs.2, fun n h => (sg_Hs.k34 (by rw [← hk, e]; simp) h).2, Or.inl (Nat.le_refl _)⟩
  · rw [e] at hs
    obtain ⟨pq, h1, h2, h3⟩ := hs
    have hle : pq.2 ≤ (nm x).2 := by
      obtain ⟨N, h1⟩ := h1
      exact (sg_wk_le _ _ h1).2
    exact ⟨_, _, h3, fun n h => (sg_Hs.k8 hD h6 (by rw [← hk, e]) h1 h).2, Or.inl hle⟩
theorem sg_Inv.posT (hI : sg_Inv D nm st nu sp lf rt tp) {x : Nat} (hx : x < tp) (h2 : st x = 2) (h9 : st (lf x) = 9) : ∃ s k, sg_Rep D nm st tp (lf (lf x)) s k ∧ (∀ n, sg_Hs D (n + 1) (nm x).1 (nm x).2 → sg_Hs D n s k) ∧ (k ≤ (nm x).2 ∨ k ≤ 1) := by
  obtain ⟨hk, hs⟩ := hI.su hx (by omega)
  rw [h2] at hs hk
  refine ⟨_, 1, hs.2.next hI h9, fun n h => ?_, Or.inr (Nat.le_refl _)⟩
  rw [hs.1] at h
  exact sg_Hs.k2 hk.symm h
theorem sg_Wt.mk (hI : sg_Inv D nm st nu sp lf rt tp) {x y : Nat} (hy : y < tp) (h9 : st (sg_fo st lf y) ≠ 9) (h : ∃ s k, sg_Rep D nm st tp y s k ∧ (∀ n, sg_Hs D (n + 1) (nm x).1 (nm x).2 → sg_Hs D n s k) ∧ (k ≤ (nm x).2 ∨ k ≤ 1)) : sg_Wt D nm st tp x (sg_fo st lf y) := by
  obtain ⟨s, k, h1, h2, h3⟩ := h
  obtain ⟨q1, q2⟩ := sg_fo_n10 hI hy
  have := hI.le10 q2
  exact ⟨by omega, s, k, h1.fo hI, h2, h3⟩
/-- the world after 'finish' -/
def sg_Fi (nm : Nat → Nat × Nat) (st : Nat → Nat) (tp : Nat) (bz : Nat → Nat) (x : Nat) (nm' : Nat → Nat × Nat) (st' : Nat → Nat) (tp' : Nat) (bz' : Nat → Nat) : Prop :=
  (∀ y, y < tp → nm' y = nm y) ∧ (∀ y, y < tp → y ≠ x → st' y = st y) ∧ 9 ≤ st' x ∧ (tp' = tp + 1 ∨ (tp' = tp ∧ st x = 2 ∧ x < 6)) ∧ (∀ y, y < tp → y ≠ x → bz' y = bz y) ∧ bz' x = 0 ∧ ∀ y, tp ≤ y → y < tp' → bz' y = 0
/-- x becomes a cell, with a new computation behind it at tp -/
theorem sg_Inv.grow (hI : sg_Inv D nm st nu sp lf rt tp) {x c : Nat} {v n p : Int32} {l r : Nat} (hx : x < tp) (h8 : st x ≤ 8) (hc : st x = c) (hi : (nm x).2 ≤ 21) (h2 : c ≠ 2) (hv : sg_Is D (nm x).1 (nm x).2 v) (hl : l < tp) (hr : r < tp) (hs : sg_Su D nm st tp c (nm x).1 ((nm x).2 + 1) n p l r) : sg_Inv D (va_up nm tp ((nm x).1, (nm x).2 + 1)) (va_up (va_up st tp c) x 9) (va_up (va_up nu tp n) x v) (va_up sp tp p) (va_up (va_up lf tp l) x tp) (va_up rt tp r) (tp + 1) := by
  have h6 := hI.six
  have hxt : x ≠ tp := by omega
  obtain ⟨hk, -⟩ := hI.su hx h8
  rw [hc] at hk
  have hc1 := hs.le
  have en : ∀ y, y < tp → va_up nm tp ((nm x).1, (nm x).2 + 1) y = nm y := fun y hy => sg_un (by omega)
  have et : va_up nm tp ((nm x).1, (nm x).2 + 1) tp = ((nm x).1, (nm x).2 + 1) := sg_us _ _ _
  have es : ∀ y, y < tp → y ≠ x → va_up (va_up st tp c) x 9 y = st y := fun y hy hne => by rw [sg_un hne, sg_un (by omega)]
  have ex : va_up (va_up st tp c) x 9 x = 9 := sg_us _ _ _
  have e10 : ∀ t, t < 6 → st t = 10 → va_up (va_up st tp c) x 9 t = 10 := fun t ht e => by
    rw [es t (by omega) (fun q => by subst q; omega)]
    exact e
  have e9 : ∀ t, t < tp → st t = 9 → va_up (va_up st tp c) x 9 t = 9 := fun t ht e => by
    by_cases q : t = x
    · rw [q]; exact ex
    · rw [es t ht q]
      exact e
  have hE : ∀ y s k, sg_Rep D nm st tp y s k → sg_Rep D (va_up nm tp ((nm x).1, (nm x).2 + 1)) (va_up (va_up st tp c) x 9) (tp + 1) y s k := fun y s k h => h.ext en e10 (Nat.le_succ tp)
  obtain ⟨hx1, hx2, hx3, hx4⟩ := hI.rng hx
  refine ⟨by omega, fun s hs' => ?_, fun y hy => ?_, fun y z hy hz e => ?_, fun y i hy e => ?_, fun y hy => ?_⟩
  · rw [en s (by omega)]
    exact hI.root hs'
  · by_cases e : y = tp
    · subst e
      rw [et, sg_un (Ne.symm hxt), sg_us, sg_us]
      exact ⟨hx1, by show (nm x).2 + 1 ≤ 22; omega, by omega, by omega⟩
    · have hy' : y < tp := by omega
      obtain ⟨q1, q2, q3, q4⟩ := hI.rng hy'
      rw [en y hy', sg_un e]
      refine ⟨q1, q2, ?_, by omega⟩
      by_cases e2 : y = x
      · subst e2
        rw [sg_us]
        omega
      · rw [sg_un e2, sg_un e]
        omega
  · have K : ∀ z, z < tp → nm z = ((nm x).1, (nm x).2 + 1) → False := fun z hz e => by
      obtain ⟨w, w1, w2, w3⟩ := hI.prev hz (i := (nm x).2) (by rw [e])
      have := hI.inj w1 hx (by rw [w2, e])
      subst this
      omega
    by_cases ey : y = tp
    · by_cases ez : z = tp
      · omega
      · subst ey
        rw [et, en z (by omega)] at e
        exact (K z (by omega) e.symm).elim
    · by_cases ez : z = tp
      · subst ez
        rw [et, en y (by omega)] at e
        exact (K y (by omega) e).elim
      · rw [en y (by omega), en z (by omega)] at e
        exact hI.inj (by omega) (by omega) e
  · by_cases ey : y = tp
    · subst ey
      rw [et] at e ⊢
      have e : (nm x).2 + 1 = i + 1 := e
      refine ⟨x, by omega, ?_, ex⟩
      rw [en x hx]
      show nm x = ((nm x).1, i)
      rw [show i = (nm x).2 by omega]
    · have hy' : y < tp := by omega
      rw [en y hy'] at e ⊢
      obtain ⟨w, w1, w2, w3⟩ := hI.prev hy' e
      exact ⟨w, by omega, by rw [en w w1]; exact w2, e9 w w1 w3⟩
  · by_cases ey : y = tp
    · subst ey
      refine Or.inr (Or.inr ?_)
      rw [et, sg_un (Ne.symm hxt), sg_us, sg_un (Ne.symm hxt), sg_us, sg_us, sg_un (Ne.symm hxt), sg_us, sg_us]
      exact ⟨hk, hs.map (fun s k h => hE l s k h) (fun s k h => hE r s k h)⟩
    · have hy' : y < tp := by omega
      by_cases e2 : y = x
      · subst e2
        refine Or.inl ⟨ex, ?_⟩
        rw [en y hx, sg_us, sg_us]
        refine ⟨by omega, hv, Or.inr ⟨by omega, et⟩⟩
      · unfold sg_No
        rw [en y hy', es y hy' e2, sg_un e2, sg_un ey, sg_un ey, sg_un e2, sg_un ey, sg_un ey]
        obtain ⟨q1, q2, q3, q4⟩ := hI.rng hy'
        rcases hI.no hy' with ⟨a1, a2, a3, a4⟩ | ⟨a1, a2, a3, a4, a5⟩ | ⟨a1, a2⟩
        · refine Or.inl ⟨a1, a2, a3, ?_⟩
          rcases a4 with ⟨b1, b2, b3⟩ | ⟨b1, b2⟩
          · exact Or.inl ⟨b1, b2, hE _ _ _ b3⟩
          · exact Or.inr ⟨b1, by rw [en _ q3]; exact b2⟩
        · exact Or.inr (Or.inl ⟨a1, a2, a3, e9 _ q3 a4, hE _ _ _ a5⟩)
        · exact Or.inr (Or.inr ⟨a1, a2.map (fun s k h => hE _ s k h) (fun s k h => hE _ s k h)⟩)
/-- a tail becomes a link -/
theorem sg_Inv.link (hI : sg_Inv D nm st nu sp lf rt tp) {x : Nat} (hx : x < tp) (h2 : st x = 2) (h9 : st (lf x) = 9) (hz : st (sg_fo st lf (lf (lf x))) = 9) : x < 6 ∧ lf (lf x) ≠ x ∧ sg_Inv D nm (va_up st x 10) nu sp (va_up lf x (sg_fo st lf (lf (lf x)))) rt tp := by
  have h6 := hI.six
  obtain ⟨hk, hs⟩ := hI.su hx (by omega)
  rw [h2] at hs hk
  obtain ⟨hi, hl⟩ := hs
  obtain ⟨hx1, hx2, hx3, hx4⟩ := hI.rng hx
  have hxo : x = (nm x).1 := hI.inj hx (by omega) (by rw [hI.root hx1, ← hi])
  have hR := (hl.next hI h9).fo hI
  have es : ∀ y, y ≠ x → va_up st x 10 y = st y := fun y h => sg_un h
  have e9 : ∀ t, st t = 9 → va_up st x 10 t = 9 := fun t e => by
    rw [es t (fun q => by subst q; omega)]
    exact e
  have e10 : ∀ t, t < 6 → st t = 10 → va_up st x 10 t = 10 := fun t _ e => by
    rw [es t (fun q => by subst q; omega)]
    exact e
  have hE : ∀ y s k, sg_Rep D nm st tp y s k → sg_Rep D nm (va_up st x 10) tp y s k := fun y s k h => h.ext (fun _ _ => rfl) e10 (Nat.le_refl _)
  refine ⟨by omega, fun q => ?_, hI.1, hI.2.1, fun y hy => ?_, hI.2.2.2.1, fun y i hy e => ?_, fun y hy => ?_⟩
  · rw [q] at hz
    unfold sg_fo at hz
    rw [if_neg (by omega)] at hz
    omega
  · obtain ⟨q1, q2, q3, q4⟩ := hI.rng hy
    refine ⟨q1, q2, ?_, q4⟩
    by_cases e : y = x
    · subst e
      rw [sg_us]
      exact hR.1
    · rw [sg_un e]
      exact q3
  · obtain ⟨w, w1, w2, w3⟩ := hI.prev hy e
    exact ⟨w, w1, w2, e9 w w3⟩
  · by_cases e : y = x
    · subst e
      refine Or.inr (Or.inl ⟨sg_us _ _ _, hk.symm, hi, ?_, ?_⟩)
      · rw [sg_us]
        exact e9 _ hz
      · rw [sg_us]
        exact hE _ _ _ hR
    · unfold sg_No
      rw [es y e, sg_un e]
      rcases hI.no hy with ⟨a1, a2, a3, a4⟩ | ⟨a1, a2, a3, a4, a5⟩ | ⟨a1, a2⟩
      · refine Or.inl ⟨a1, a2, a3, ?_⟩
        rcases a4 with ⟨b1, b2, b3⟩ | ⟨b1, b2⟩
        · exact Or.inl ⟨b1, b2, hE _ _ _ b3⟩
        · exact Or.inr ⟨b1, b2⟩
      · exact Or.inr (Or.inl ⟨a1, a2, a3, e9 _ a4, hE _ _ _ a5⟩)
      · exact Or.inr (Or.inr ⟨a1, a2.map (fun s k h => hE _ s k h) (fun s k h => hE _ s k h)⟩)
end
end
section
/-! THE LOOP OF force: the stack, its bound, its measure -/
section
variable {D : sg_D} {nm : Nat → Nat × Nat} {st : Nat → Nat} {nu sp : Nat → Int32} {lf rt : Nat → Nat} {tp : Nat}
/-- u different sequences, each with a place below 15 + u that a node of S stands for -/
def sg_Bc (D : sg_D) (nm : Nat → Nat × Nat) (st : Nat → Nat) (tp : Nat) (S : Nat → Prop) (U : Nat → Nat) (u : Nat) : Prop := (∀ i, i < u → U i < 6) ∧ (∀ i j, i < u → j < u → U i = U j → i = j) ∧ ∀ i, i < u → ∃ x j, S x ∧ j < 15 + u ∧ sg_Rep D nm st tp x (U i) j
theorem sg_bound (hI : sg_Inv D nm st nu sp lf rt tp) {S : Nat → Prop} (hS : ∀ x, S x → st x ≤ 8) {y : Nat} (hy : S y) {s k : Nat} (h : sg_Rep D nm st tp y s k) : ∀ (U : Nat → Nat) (u : Nat), sg_Bc D nm st tp S U u → k ≤ 15 + u → ∃ U' u', sg_Bc D nm st tp S U' u' ∧ (nm y).2 ≤ 15 + u' := by
  refine h.ind (M := fun s k => ∀ (U : Nat → Nat) (u : Nat), sg_Bc D nm st tp S U u → k ≤ 15 + u → ∃ U' u', sg_Bc D nm st tp S U' u' ∧ (nm y).2 ≤ 15 + u') ?_ ?_ ?_
  · intro s k hs e U u hB hk
    exact ⟨U, u, hB, by rw [e]; exact hk⟩
  · intro s k hs hk _ ih U u hB hle
    exact ih U u hB (by omega)
  · intro s k hs hk h10 hr ih U u hB hle
    rcases Nat.lt_or_ge k (15 + u) with q | q
    · exact ih U u hB (by omega)
    · have hrs : sg_Rep D nm st tp y s k := sg_Rep.tail hs hk h10 hr
      have hno : ∀ i, i < u → U i ≠ s := fun i hi e => by
        obtain ⟨x, j, h1, h2, h3⟩ := hB.2.2 i hi
        rw [e] at h3
        have := h3.last hI (hS x h1) hrs
        omega
      obtain ⟨e1, e2⟩ := sg_ext6 hB.1 hB.2.1 hs hno
      refine ih (fun i => if i = u then s else U i) (u + 1) ⟨e1, e2, fun i hi => ?_⟩ (by omega)
      show ∃ x j, S x ∧ j < 15 + (u + 1) ∧ sg_Rep D nm st tp x (if i = u then s else U i) j
      by_cases ei : i = u
      · rw [if_pos ei]
        exact ⟨y, k, hy, by omega, hrs⟩
      · rw [if_neg ei]
        obtain ⟨x, j, h1, h2, h3⟩ := hB.2.2 i (by omega)
        exact ⟨x, j, h1, by omega, h3⟩
theorem sg_Bc.mono {nm' : Nat → Nat × Nat} {st' : Nat → Nat} {tp' : Nat} {S S' : Nat → Prop} {U : Nat → Nat} {u : Nat} (hS : ∀ x, S x → S' x) (hR : ∀ x s k, sg_Rep D nm st tp x s k → sg_Rep D nm' st' tp' x s k) (h : sg_Bc D nm st tp S U u) : sg_Bc D nm' st' tp' S' U u := by
  refine ⟨h.1, h.2.1, fun i hi => ?_⟩
  obtain ⟨x, j, h1, h2, h3⟩ := h.2.2 i hi
  exact ⟨x, j, hS x h1, h2, hR _ _ _ h3⟩
/-- the index of the stack's place q is small -/
def sg_Bd (D : sg_D) (nm : Nat → Nat × Nat) (st : Nat → Nat) (tp : Nat) (sk : Nat → Nat) (q : Nat) : Prop := ∃ U u, sg_Bc D nm st tp (fun x => ∃ r, r ≤ q ∧ sk r = x) U u ∧ (nm (sk q)).2 ≤ 15 + u
theorem sg_Bd.le {sk : Nat → Nat} {q : Nat} (h : sg_Bd D nm st tp sk q) : (nm (sk q)).2 ≤ 21 := by
  obtain ⟨U, u, h1, h2⟩ := h
  have := sg_php6 h1.1 h1.2.1
  omega
/-- what holds at the loop's head: h waiting nodes sk 0 .. sk (h - 1), asked for place k of sequence s -/
def sg_Lp (D : sg_D) (nm : Nat → Nat × Nat) (st : Nat → Nat) (nu sp : Nat → Int32) (lf rt : Nat → Nat) (tp : Nat) (bz sk : Nat → Nat) (h s k : Nat) : Prop :=
  sg_Inv D nm st nu sp lf rt tp ∧ (∀ q, q < h → sk q < tp) ∧ (∀ q, q + 1 < h → st (sk q) ≤ 8 ∧ bz (sk q) = 1) ∧ (∀ q r, q < h → r < h → sk q = sk r → q = r) ∧ (∀ y, y < tp → bz y = 0 ∨ (bz y = 1 ∧ st y ≤ 8 ∧ ∃ q, q < h ∧ sk q = y)) ∧ (0 < h → sg_Rep D nm st tp (sk 0) s k) ∧ (∀ q, q + 1 < h → ∀ n, sg_Hs D (n + 1) (nm (sk q)).1 (nm (sk q)).2 → sg_Hs D n (nm (sk (q + 1))).1 (nm (sk (q + 1))).2) ∧ ∀ q, q < h → st (sk q) ≤ 8 → sg_Bd D nm st tp sk q
theorem sg_Inv.top (hI : sg_Inv D nm st nu sp lf rt tp) : tp ≤ 138 := by
  refine sg_php 138 tp (fun x => 23 * (nm x).1 + (nm x).2) (fun x hx => ?_) (fun x y hx hy e => ?_)
  · obtain ⟨h1, h2, -, -⟩ := hI.rng hx
    show 23 * (nm x).1 + (nm x).2 < 138
    omega
  · obtain ⟨h1, h2, -, -⟩ := hI.rng hx
    obtain ⟨h3, h4, -, -⟩ := hI.rng hy
    have e : 23 * (nm x).1 + (nm x).2 = 23 * (nm y).1 + (nm y).2 := e
    refine hI.inj hx hy (Prod.ext ?_ ?_)
    · omega
    · omega
/-- tails not yet links, among the first n nodes -/
def sg_cn (st : Nat → Nat) : Nat → Nat
  | 0 => 0
  | n + 1 => sg_cn st n + (if st n = 2 then 1 else 0)
theorem sg_cn_le {st' : Nat → Nat} : ∀ n, (∀ t, t < n → st' t = 2 → st t = 2) → sg_cn st' n ≤ sg_cn st n := by
  intro n
  induction n with
  | zero => intro _; exact Nat.le_refl _
  | succ n ih =>
    intro h
    have h1 := ih (fun t ht => h t (by omega))
    have h2 := h n (by omega)
    unfold sg_cn
    by_cases e : st' n = 2
    · rw [if_pos e, if_pos (h2 e)]
      omega
    · rw [if_neg e]
      omega
theorem sg_cn_lt {st' : Nat → Nat} {x : Nat} : ∀ n, x < n → (∀ t, t < n → st' t = 2 → st t = 2) → st x = 2 → st' x ≠ 2 → sg_cn st' n + 1 ≤ sg_cn st n := by
  intro n
  induction n with
  | zero => intro h; omega
  | succ n ih =>
    intro hx h h1 h2
    unfold sg_cn
    by_cases e : x = n
    · subst e
      have := sg_cn_le (st := st) (st' := st') x (fun t ht => h t (by omega))
      rw [if_neg h2, if_pos h1]
      omega
    · have h3 := ih (by omega) (fun t ht => h t (by omega)) h1 h2
      have h4 := h n (by omega)
      by_cases e : st' n = 2
      · rw [if_pos e, if_pos (h4 e)]
        omega
      · rw [if_neg e]
        omega
def sg_mu (st : Nat → Nat) (tp : Nat) (sk : Nat → Nat) (h : Nat) : Nat := 16 * (138 - tp) + 16 * sg_cn st 6 + (if 0 < h ∧ 9 ≤ st (sk (h - 1)) then 2 else 0) + (8 - h)
theorem sg_Lp.inv {bz sk : Nat → Nat} {h s k : Nat} (L : sg_Lp D nm st nu sp lf rt tp bz sk h s k) : sg_Inv D nm st nu sp lf rt tp := L.1
/-- the start: one node on the stack -/
theorem sg_Lp.start (hI : sg_Inv D nm st nu sp lf rt tp) {bz sk : Nat → Nat} {x s k : Nat} (hb : ∀ y, y < tp → bz y = 0) (hk : k ≤ 15) (hr : sg_Rep D nm st tp x s k) : sg_Lp D nm st nu sp lf rt tp bz (va_up sk 0 x) 1 s k := by
  refine ⟨hI, fun q hq => ?_, fun q hq => absurd hq (by omega), fun q r hq hr _ => by omega, fun y hy => Or.inl (hb y hy), fun _ => ?_, fun q hq => absurd hq (by omega), fun q hq h8 => ?_⟩
  · rw [show q = 0 by omega, sg_us]
    exact hr.1
  · rw [sg_us]
    exact hr
  · have e : q = 0 := by omega
    subst e
    rw [sg_us] at h8
    obtain ⟨U, u, h1, h2⟩ := sg_bound hI (S := fun z => z = x) (fun z e => by rw [e]; exact h8) (y := x) rfl hr (fun _ => 0) 0 ⟨fun i hi => absurd hi (by omega), fun i j hi => absurd hi (by omega), fun i hi => absurd hi (by omega)⟩ (by omega)
    refine ⟨U, u, h1.mono (fun z e => ⟨0, Nat.le_refl _, ?_⟩) (fun _ _ _ h => h), ?_⟩
    · rw [sg_us]
      exact e.symm
    · rw [sg_us]
      exact h2
theorem sg_Lp.done {bz sk : Nat → Nat} {s k : Nat} (L : sg_Lp D nm st nu sp lf rt tp bz sk 0 s k) : ∀ y, y < tp → bz y = 0 := by
  intro y hy
  obtain ⟨-, -, -, -, h, -⟩ := L
  rcases h y hy with q | ⟨-, -, q, q1, -⟩
  · exact q
  · omega
/-- the top is a cell: it goes -/
theorem sg_Lp.pop {bz sk : Nat → Nat} {h s k : Nat} (L : sg_Lp D nm st nu sp lf rt tp bz sk (h + 1) s k) (h9 : st (sg_fo st lf (sk h)) = 9) : sg_Lp D nm st nu sp lf rt tp bz (va_up sk h (sg_fo st lf (sk h))) h s k ∧ (h = 0 → sg_Rep D nm st tp (sg_fo st lf (sk h)) s k) ∧ sg_mu st tp (va_up sk h (sg_fo st lf (sk h))) h < sg_mu st tp sk (h + 1) := by
  obtain ⟨hI, a1, a2, a3, a4, a5, a6, a7⟩ := L
  have es : ∀ q, q < h → va_up sk h (sg_fo st lf (sk h)) q = sk q := fun q hq => sg_un (by omega)
  have htop : 9 ≤ st (sk h) := by
    unfold sg_fo at h9
    by_cases e : st (sk h) = 10
    · omega
    · rw [if_neg e] at h9
      omega
  refine ⟨⟨hI, fun q hq => ?_, fun q hq => ?_, fun q r hq hr e => ?_, fun y hy => ?_, fun hp => ?_, fun q hq => ?_, fun q hq h8 => ?_⟩, fun e => ?_, ?_⟩
  · rw [es q hq]
    exact a1 q (by omega)
  · rw [es q (by omega)]
    exact a2 q (by omega)
  · rw [es q hq, es r hr] at e
    exact a3 q r (by omega) (by omega) e
  · rcases a4 y hy with b | ⟨b1, b2, q, b3, b4⟩
    · exact Or.inl b
    · refine Or.inr ⟨b1, b2, q, ?_, ?_⟩
      · rcases Nat.lt_or_ge q h with c | c
        · exact c
        · have : q = h := by omega
          subst this
          rw [b4] at htop
          omega
      · rw [es q ?_]
        · exact b4
        · rcases Nat.lt_or_ge q h with c | c
          · exact c
          · have : q = h := by omega
            subst this
            rw [b4] at htop
            omega
  · rw [es 0 hp]
    exact a5 (by omega)
  · rw [es q (by omega), es (q + 1) hq]
    exact a6 q (by omega)
  · rw [es q hq] at h8
    obtain ⟨U, u, b1, b2⟩ := a7 q (by omega) h8
    refine ⟨U, u, b1.mono (fun z ⟨r, r1, r2⟩ => ⟨r, r1, by rw [es r (by omega)]; exact r2⟩) (fun _ _ _ h => h), ?_⟩
    rw [es q hq]
    exact b2
  · subst e
    exact (a5 (by omega)).fo hI
  · unfold sg_mu
    rw [if_pos (show 0 < h + 1 ∧ 9 ≤ st (sk (h + 1 - 1)) from ⟨by omega, by rw [Nat.add_sub_cancel]; exact htop⟩)]
    by_cases hp : 0 < h
    · rw [if_neg]
      · omega
      · rintro ⟨-, c⟩
        rw [es (h - 1) (by omega)] at c
        have := (a2 (h - 1) (by omega)).1
        omega
    · rw [if_neg (fun c => hp c.1)]
      omega
/-- the top is no cell: it is suspended, and no link -/
theorem sg_Lp.susp {bz sk : Nat → Nat} {h s k : Nat} (L : sg_Lp D nm st nu sp lf rt tp bz sk (h + 1) s k) (h9 : st (sg_fo st lf (sk h)) ≠ 9) : sg_fo st lf (sk h) = sk h ∧ st (sk h) ≤ 8 ∧ sk h < tp ∧ (nm (sk h)).2 ≤ 21 := by
  obtain ⟨hI, a1, a2, a3, a4, a5, a6, a7⟩ := L
  have ht := a1 h (by omega)
  have h10 := hI.le10 ht
  have hn10 : st (sk h) ≠ 10 := fun e => by
    obtain ⟨-, -, q, -⟩ := hI.li ht e
    unfold sg_fo at h9
    rw [if_pos e] at h9
    exact h9 q
  have e : sg_fo st lf (sk h) = sk h := by
    unfold sg_fo
    rw [if_neg hn10]
  rw [e] at h9
  have h8 : st (sk h) ≤ 8 := by omega
  exact ⟨e, h8, ht, (a7 h (by omega) h8).le⟩
/-- links written back change nothing -/
theorem sg_Lp.same {lf' rt' : Nat → Nat} {bz sk : Nat → Nat} {h s k : Nat} (L : sg_Lp D nm st nu sp lf rt tp bz sk h s k) (hI : sg_Inv D nm st nu sp lf' rt' tp) : sg_Lp D nm st nu sp lf' rt' tp bz sk h s k := ⟨hI, L.2⟩
theorem sg_Lp.stack {bz sk sk' : Nat → Nat} {h s k : Nat} (L : sg_Lp D nm st nu sp lf rt tp bz sk h s k) (he : sk' = sk) : sg_Lp D nm st nu sp lf rt tp bz sk' h s k := by
  rw [he]
  exact L
/-- the top is finished -/
theorem sg_Lp.finish {nm' : Nat → Nat × Nat} {st' : Nat → Nat} {nu' sp' : Nat → Int32} {lf' rt' : Nat → Nat} {tp' : Nat} {bz bz' sk : Nat → Nat} {h s k : Nat} (L : sg_Lp D nm st nu sp lf rt tp bz sk (h + 1) s k) (h8 : st (sk h) ≤ 8) (hI : sg_Inv D nm' st' nu' sp' lf' rt' tp') (hF : sg_Fi nm st tp (va_up bz (sk h) 1) (sk h) nm' st' tp' bz') : sg_Lp D nm' st' nu' sp' lf' rt' tp' bz' sk (h + 1) s k ∧ sg_mu st' tp' sk (h + 1) < sg_mu st tp sk (h + 1) := by
  obtain ⟨hI0, a1, a2, a3, a4, a5, a6, a7⟩ := L
  obtain ⟨b1, b2, b3, b4, b5, b6, b7⟩ := hF
  have htp : tp ≤ tp' := by omega
  have h6 := hI0.six
  have ht := a1 h (by omega)
  have en : ∀ q, q < h + 1 → nm' (sk q) = nm (sk q) := fun q hq => b1 _ (a1 q hq)
  have es : ∀ q, q < h → st' (sk q) = st (sk q) := fun q hq => b2 _ (a1 q (by omega)) (fun e => by
    have := a3 q h (by omega) (by omega) e
    omega)
  have e10 : ∀ t, t < 6 → st t = 10 → st' t = 10 := fun t ht' e => by
    rw [b2 t (by omega) (fun q => by subst q; omega)]
    exact e
  have hE : ∀ y s k, sg_Rep D nm st tp y s k → sg_Rep D nm' st' tp' y s k := fun y s k h => h.ext b1 e10 htp
  refine ⟨⟨hI, fun q hq => ?_, fun q hq => ?_, a3, fun y hy => ?_, fun hp => hE _ _ _ (a5 hp), fun q hq => ?_, fun q hq h8' => ?_⟩, ?_⟩
  · have := a1 q hq
    omega
  · rw [es q (by omega), b5 _ (a1 q (by omega)) (fun e => by
      have := a3 q h (by omega) (by omega) e
      omega), sg_un (fun e => by
      have := a3 q h (by omega) (by omega) e
      omega)]
    exact a2 q hq
  · rcases Nat.lt_or_ge y tp with c | c
    · by_cases e : y = sk h
      · rw [e]
        exact Or.inl b6
      · rw [b5 y c e, sg_un e, b2 y c e]
        exact a4 y c
    · exact Or.inl (b7 y c hy)
  · rw [en q (by omega), en (q + 1) hq]
    exact a6 q hq
  · have hq' : q < h := by
      rcases Nat.lt_or_ge q h with c | c
      · exact c
      · have : q = h := by omega
        subst this
        omega
    rw [es q hq'] at h8'
    obtain ⟨U, u, c1, c2⟩ := a7 q hq h8'
    refine ⟨U, u, c1.mono (fun _ h => h) hE, ?_⟩
    rw [en q hq]
    exact c2
  · have h138 := hI.top
    have hle : sg_cn st' 6 ≤ sg_cn st 6 := sg_cn_le 6 (fun t ht' e => by
      by_cases q : t = sk h
      · subst q
        omega
      · rw [b2 t (by omega) q] at e
        exact e)
    have hgo : 16 * (138 - tp') + 16 * sg_cn st' 6 + 16 ≤ 16 * (138 - tp) + 16 * sg_cn st 6 := by
      rcases b4 with e | ⟨e1, e2, e3⟩
      · omega
      · have := sg_cn_lt (st := st) (st' := st') (x := sk h) 6 e3 (fun t ht' e => by
          by_cases q : t = sk h
          · subst q
            omega
          · rw [b2 t (by omega) q] at e
            exact e) e2 (by omega)
        omega
    unfold sg_mu
    have : (if 0 < h + 1 ∧ 9 ≤ st' (sk (h + 1 - 1)) then 2 else 0) ≤ 2 := by split <;> omega
    omega
/-- what the top waits for comes on the stack -/
theorem sg_Lp.push (hD : sg_Ok D) (hI : sg_Inv D nm st nu sp lf rt tp) {bz sk : Nat → Nat} {h s k w : Nat} (L : sg_Lp D nm st nu sp lf rt tp bz sk (h + 1) s k) (h8 : st (sk h) ≤ 8) (hW : sg_Wt D nm st tp (sk h) w) (hb : va_up bz (sk h) 1 w = 0) : h + 2 ≤ 6 ∧ sg_Lp D nm st nu sp lf rt tp (va_up bz (sk h) 1) (va_up sk (h + 1) w) (h + 2) s k ∧ sg_mu st tp (va_up sk (h + 1) w) (h + 2) < sg_mu st tp sk (h + 1) := by
  obtain ⟨-, a1, a2, a3, a4, a5, a6, a7⟩ := L
  obtain ⟨w8, s', k', w1, w2, w3⟩ := hW
  have ht := a1 h (by omega)
  have es : ∀ q, q < h + 1 → va_up sk (h + 1) w q = sk q := fun q hq => sg_un (by omega)
  have et : va_up sk (h + 1) w (h + 1) = w := sg_us _ _ _
  have hbusy : ∀ q, q < h + 1 → st (sk q) ≤ 8 ∧ va_up bz (sk h) 1 (sk q) = 1 := fun q hq => by
    by_cases e : q = h
    · subst e
      exact ⟨h8, sg_us _ _ _⟩
    · rw [sg_un (fun c => e (a3 q h (by omega) (by omega) c))]
      exact a2 q (by omega)
  have hnw : ∀ q, q < h + 1 → sk q ≠ w := fun q hq e => by
    have := (hbusy q hq).2
    rw [e, hb] at this
    omega
  have hall : ∀ q, q < h + 2 → va_up sk (h + 1) w q < tp ∧ st (va_up sk (h + 1) w q) ≤ 8 := fun q hq => by
    by_cases e : q = h + 1
    · subst e
      rw [et]
      exact ⟨w1.1, w8⟩
    · rw [es q (by omega)]
      exact ⟨a1 q (by omega), (hbusy q (by omega)).1⟩
  have hinj : ∀ q r, q < h + 2 → r < h + 2 → va_up sk (h + 1) w q = va_up sk (h + 1) w r → q = r := fun q r hq hr e => by
    by_cases eq : q = h + 1
    · by_cases er : r = h + 1
      · omega
      · subst eq
        rw [et, es r (by omega)] at e
        exact absurd e.symm (hnw r (by omega))
    · by_cases er : r = h + 1
      · subst er
        rw [et, es q (by omega)] at e
        exact absurd e (hnw q (by omega))
      · rw [es q (by omega), es r (by omega)] at e
        exact a3 q r (by omega) (by omega) e
  have hown : ∀ x y, x < tp → y < tp → st x ≤ 8 → st y ≤ 8 → (nm x).1 = (nm y).1 → x = y := by
    intro x y hx hy hx8 hy8 e
    have hx6 := (hI.rng hx).1
    have r1 : sg_Rep D nm st tp x (nm x).1 (nm x).2 := sg_Rep.nm hx6 hx rfl
    have r2 : sg_Rep D nm st tp y (nm x).1 (nm y).2 := sg_Rep.nm hx6 hy (by rw [e])
    have l1 := r1.last hI hx8 r2
    have l2 := r2.last hI hy8 r1
    exact hI.inj hx hy (Prod.ext e (by omega))
  have h6 : h + 2 ≤ 6 := sg_php 6 (h + 2) (fun q => (nm (va_up sk (h + 1) w q)).1) (fun q hq => (hI.rng (hall q hq).1).1) (fun q r hq hr e => hinj q r hq hr (hown _ _ (hall q hq).1 (hall r hr).1 (hall q hq).2 (hall r hr).2 e))
  refine ⟨h6, ⟨hI, fun q hq => (hall q hq).1, fun q hq => ?_, hinj, fun y hy => ?_, fun _ => ?_, fun q hq => ?_, fun q hq h8' => ?_⟩, ?_⟩
  · rw [es q (by omega)]
    exact hbusy q (by omega)
  · by_cases e : y = sk h
    · refine Or.inr ⟨by rw [e]; exact sg_us _ _ _, by rw [e]; exact h8, h, by omega, ?_⟩
      rw [es h (by omega)]
      exact e.symm
    · rw [sg_un e]
      rcases a4 y hy with c | ⟨c1, c2, q, c3, c4⟩
      · exact Or.inl c
      · exact Or.inr ⟨c1, c2, q, by omega, by rw [es q (by omega)]; exact c4⟩
  · rw [es 0 (by omega)]
    exact a5 (by omega)
  · by_cases e : q = h
    · subst e
      rw [es q (by omega), et]
      intro n hn
      exact w1.hs hD n (w2 n hn)
    · rw [es q (by omega), es (q + 1) (by omega)]
      exact a6 q (by omega)
  · by_cases e : q = h + 1
    · subst e
      obtain ⟨U, u, c1, c2⟩ := a7 h (by omega) h8
      have hk' : k' ≤ 15 + u := by omega
      obtain ⟨U', u', d1, d2⟩ := sg_bound hI (S := fun x => ∃ r, r ≤ h + 1 ∧ va_up sk (h + 1) w r = x) (fun x ⟨r, r1, r2⟩ => by rw [← r2]; exact (hall r (by omega)).2) (y := w) ⟨h + 1, Nat.le_refl _, et⟩ w1 U u (c1.mono (fun x ⟨r, r1, r2⟩ => ⟨r, by omega, by rw [es r (by omega)]; exact r2⟩) (fun _ _ _ h => h)) hk'
      refine ⟨U', u', d1, ?_⟩
      rw [et]
      exact d2
    · rw [es q (by omega)] at h8'
      obtain ⟨U, u, c1, c2⟩ := a7 q (by omega) h8'
      refine ⟨U, u, c1.mono (fun x ⟨r, r1, r2⟩ => ⟨r, r1, by rw [es r (by omega)]; exact r2⟩) (fun _ _ _ h => h), ?_⟩
      rw [es q (by omega)]
      exact c2
  · unfold sg_mu
    rw [if_neg (show ¬ (0 < h + 2 ∧ 9 ≤ st (va_up sk (h + 1) w (h + 2 - 1))) from fun c => by
      have c := c.2
      rw [show h + 2 - 1 = h + 1 by omega, et] at c
      omega)]
    omega
/-- what the top waits for waits itself: nothing of this is ever there -/
theorem sg_Lp.dead (hD : sg_Ok D) {bz sk : Nat → Nat} {h s k w : Nat} (L : sg_Lp D nm st nu sp lf rt tp bz sk (h + 1) s k) (h8 : st (sk h) ≤ 8) (hW : sg_Wt D nm st tp (sk h) w) (hb : va_up bz (sk h) 1 w ≠ 0) : (∀ n, sg_Tb D n s k = none) ∧ ∀ bz' : Nat → Nat, (∀ q, q < h + 1 → bz' (sk q) = 0) → (∀ y, (∀ q, q < h + 1 → sk q ≠ y) → bz' y = va_up bz (sk h) 1 y) → ∀ y, y < tp → bz' y = 0 := by
  obtain ⟨hI, a1, a2, a3, a4, a5, a6, a7⟩ := L
  obtain ⟨w8, s', k', w1, w2, w3⟩ := hW
  have hon : ∃ q, q < h + 1 ∧ sk q = w := by
    by_cases e : w = sk h
    · exact ⟨h, by omega, e.symm⟩
    · rw [sg_un e] at hb
      rcases a4 w w1.1 with c | ⟨c1, c2, q, c3, c4⟩
      · exact absurd c hb
      · exact ⟨q, c3, c4⟩
  obtain ⟨q0, hq0, e0⟩ := hon
  have K : ∀ n q, q < h + 1 → ¬ sg_Hs D n (nm (sk q)).1 (nm (sk q)).2 := by
    intro n
    induction n with
    | zero =>
      intro q _ hh
      obtain ⟨v, hv⟩ := hh
      exact absurd hv (by simp [sg_Tb])
    | succ n ih =>
      intro q hq hh
      by_cases e : q = h
      · subst e
        have := w1.hs hD n (w2 n hh)
        rw [← e0] at this
        exact ih q0 hq0 this
      · exact ih (q + 1) (by omega) (a6 q (by omega) n hh)
  refine ⟨fun n => ?_, fun bz' c1 c2 y hy => ?_⟩
  · cases hv : sg_Tb D n s k with
    | none => rfl
    | some v => exact (K n 0 (by omega) ((a5 (by omega)).hs hD n ⟨v, hv⟩)).elim
  · by_cases e : ∃ q, q < h + 1 ∧ sk q = y
    · obtain ⟨q, q1, q2⟩ := e
      rw [← q2]
      exact c1 q q1
    · rw [c2 y (fun q hq e' => e ⟨q, hq, e'⟩), sg_un (fun e' => e ⟨h, by omega, e'.symm⟩)]
      rcases a4 y hy with c | ⟨-, -, q, c3, c4⟩
      · exact c
      · exact absurd ⟨q, c3, c4⟩ e
end
end
section
/-! finish, kind by kind -/
section
variable {D : sg_D} {nm : Nat → Nat × Nat} {st : Nat → Nat} {nu sp : Nat → Int32} {lf rt : Nat → Nat} {tp : Nat}
theorem sg_Fi.grow (hI : sg_Inv D nm st nu sp lf rt tp) {bz : Nat → Nat} {x c : Nat} {q : Nat × Nat} (hx : x < tp) : sg_Fi nm st tp bz x (va_up nm tp q) (va_up (va_up st tp c) x 9) (tp + 1) (va_up (va_up bz x 0) tp 0) := by
  refine ⟨fun y hy => sg_un (by omega), fun y hy hne => by rw [sg_un hne, sg_un (by omega)], by rw [sg_us]; omega, Or.inl rfl, fun y hy hne => by rw [sg_un (by omega), sg_un hne], by rw [sg_un (by omega), sg_us], fun y h1 h2 => ?_⟩
  rw [show y = tp by omega, sg_us]
/-- behind 'finish' at x: the names nm' that there are then -/
def sg_Fx (D : sg_D) (nm : Nat → Nat × Nat) (st : Nat → Nat) (tp : Nat) (bz : Nat → Nat) (x : Nat) (st' : Nat → Nat) (nu' sp' : Nat → Int32) (lf' rt' : Nat → Nat) (tp' : Nat) (bz' : Nat → Nat) : Prop := ∃ nm', sg_Inv D nm' st' nu' sp' lf' rt' tp' ∧ sg_Fi nm st tp bz x nm' st' tp' bz'
theorem sg_fin {bz : Nat → Nat} (hI : sg_Inv D nm st nu sp lf rt tp) {x c : Nat} {v n p : Int32} {l r : Nat} (hx : x < tp) (h8 : st x ≤ 8) (hc : st x = c) (hi : (nm x).2 ≤ 21) (h2 : c ≠ 2) (hv : sg_Is D (nm x).1 (nm x).2 v) (hl : l < tp) (hr : r < tp) (hs : sg_Su D nm st tp c (nm x).1 ((nm x).2 + 1) n p l r) : sg_Fx D nm st tp bz x (va_up (va_up st tp c) x 9) (va_up (va_up nu tp n) x v) (va_up sp tp p) (va_up (va_up lf tp l) x tp) (va_up rt tp r) (tp + 1) (va_up (va_up bz x 0) tp 0) := ⟨_, hI.grow hx h8 hc hi h2 hv hl hr hs, sg_Fi.grow hI hx⟩
theorem sg_cnt (a b : Int32) (i : Nat) : a + nI i * b + b = a + nI (i + 1) * b := by
  rw [← nI_1]
  grind
theorem sg_fin0 {bz : Nat → Nat} (hD : sg_Ok D) (hI : sg_Inv D nm st nu sp lf rt tp) {x : Nat} (hx : x < tp) (hc : st x = 0) (hi : (nm x).2 ≤ 21) : sg_Fx D nm st tp bz x (va_up (va_up st tp 0) x 9) (va_up (va_up nu tp (nu x + sp x)) x (nu x)) (va_up sp tp (sp x)) (va_up (va_up lf tp 0) x tp) (va_up rt tp 0) (tp + 1) (va_up (va_up bz x 0) tp 0) := by
  have h6 := hI.six
  obtain ⟨hk, hs⟩ := hI.su hx (by omega)
  have ho := (hI.rng hx).1
  have ha := hI.ah hx
  rw [hc] at hk hs
  obtain ⟨s1, s2⟩ := hs
  refine sg_fin hI hx (by omega) hc hi (by omega) ?_ (by omega) (by omega) ⟨?_, s2⟩
  · rw [s1]
    exact sg_Is.k0 hD ho hk.symm ha
  · rw [s1, s2]
    exact sg_cnt _ _ _
theorem sg_fin5 {bz : Nat → Nat} (hD : sg_Ok D) (hI : sg_Inv D nm st nu sp lf rt tp) {x : Nat} (hx : x < tp) (hc : st x = 5) (hi : (nm x).2 ≤ 21) (h9 : st (lf x) = 9) : sg_Fx D nm st tp bz x (va_up (va_up st tp 5) x 9) (va_up (va_up nu tp (nu x)) x (nu x * nu (lf x))) (va_up sp tp 0) (va_up (va_up lf tp (lf (lf x))) x tp) (va_up rt tp 0) (tp + 1) (va_up (va_up bz x 0) tp 0) := by
  have h6 := hI.six
  obtain ⟨hk, hs⟩ := hI.su hx (by omega)
  obtain ⟨ho, -, hlx, -⟩ := hI.rng hx
  have hll := (hI.rng hlx).2.2.1
  have ha := hI.ah hx
  rw [hc] at hk hs
  obtain ⟨s1, s2⟩ := hs
  refine sg_fin hI hx (by omega) hc hi (by omega) ?_ hll (by omega) ⟨s1, s2.next hI h9⟩
  rw [s1]
  exact sg_Is.k5 hD ho hk.symm ha (s2.is hD hI h9)
theorem sg_fin6 {bz : Nat → Nat} (hD : sg_Ok D) (hI : sg_Inv D nm st nu sp lf rt tp) {x : Nat} (hx : x < tp) (hc : st x = 6) (hi : (nm x).2 ≤ 21) (h9 : st (lf x) = 9) : sg_Fx D nm st tp bz x (va_up (va_up st tp 6) x 9) (va_up (va_up nu tp (nu x + nu (lf x))) x (nu x + nu (lf x))) (va_up sp tp 0) (va_up (va_up lf tp (lf (lf x))) x tp) (va_up rt tp 0) (tp + 1) (va_up (va_up bz x 0) tp 0) := by
  have h6 := hI.six
  obtain ⟨hk, hs⟩ := hI.su hx (by omega)
  obtain ⟨ho, -, hlx, -⟩ := hI.rng hx
  have hll := (hI.rng hlx).2.2.1
  have ha := hI.ah hx
  rw [hc] at hk hs
  obtain ⟨s1, s2⟩ := hs
  have hsa := (hD.a ho (by rw [← hk]; simp [sg_usA])).1
  have hsum := s1.succ hD hsa (s2.is hD hI h9)
  exact sg_fin hI hx (by omega) hc hi (by omega) (sg_Is.k6 hD ho hk.symm ha hsum) hll (by omega) ⟨hsum, s2.next hI h9⟩
theorem sg_fin7 {bz : Nat → Nat} (hD : sg_Ok D) (hI : sg_Inv D nm st nu sp lf rt tp) {x : Nat} (hx : x < tp) (hc : st x = 7) (hi : (nm x).2 ≤ 21) (h9 : st (lf x) = 9) : sg_Fx D nm st tp bz x (va_up (va_up st tp 7) x 9) (va_up (va_up nu tp 0) x (nu (lf x))) (va_up sp tp 0) (va_up (va_up lf tp (rt x)) x tp) (va_up rt tp (lf (lf x))) (tp + 1) (va_up (va_up bz x 0) tp 0) := by
  have h6 := hI.six
  obtain ⟨hk, hs⟩ := hI.su hx (by omega)
  obtain ⟨ho, -, hlx, hrx⟩ := hI.rng hx
  have hll := (hI.rng hlx).2.2.1
  have ha := hI.ah hx
  rw [hc] at hk hs
  obtain ⟨s1, s2⟩ := hs
  refine sg_fin hI hx (by omega) hc hi (by omega) ?_ hrx hll ⟨fun e => ?_, fun e => ?_⟩
  · rcases Nat.mod_two_eq_zero_or_one (nm x).2 with e | e
    · exact sg_Is.k7e hD ho hk.symm ha e ((s1 e).1.is hD hI h9)
    · exact sg_Is.k7o hD ho hk.symm ha e ((s2 e).1.is hD hI h9)
  · have e' : (nm x).2 % 2 = 1 := by omega
    rw [show ((nm x).2 + 1) / 2 = (nm x).2 / 2 + 1 by omega]
    exact ⟨(s2 e').2, (s2 e').1.next hI h9⟩
  · have e' : (nm x).2 % 2 = 0 := by omega
    rw [show ((nm x).2 + 1) / 2 = (nm x).2 / 2 by omega]
    exact ⟨(s1 e').2, (s1 e').1.next hI h9⟩
theorem sg_fin3 {bz : Nat → Nat} (hD : sg_Ok D) (hI : sg_Inv D nm st nu sp lf rt tp) {x : Nat} (hx : x < tp) (hc : st x = 3) (hi : (nm x).2 ≤ 21) (h9 : st (lf x) = 9) (hr9 : st (rt x) = 9) : sg_Fx D nm st tp bz x (va_up (va_up st tp 3) x 9) (va_up (va_up nu tp 0) x (nu (lf x) + nu (rt x))) (va_up sp tp 0) (va_up (va_up lf tp (lf (lf x))) x tp) (va_up rt tp (lf (rt x))) (tp + 1) (va_up (va_up bz x 0) tp 0) := by
  obtain ⟨hk, hs⟩ := hI.su hx (by omega)
  obtain ⟨ho, -, hlx, hrx⟩ := hI.rng hx
  have hll := (hI.rng hlx).2.2.1
  have hlr := (hI.rng hrx).2.2.1
  have ha := hI.ah hx
  rw [hc] at hk hs
  obtain ⟨s1, s2⟩ := hs
  exact sg_fin hI hx (by omega) hc hi (by omega) (sg_Is.k3 hD ho hk.symm ha (s1.is hD hI h9) (s2.is hD hI hr9)) hll hlr ⟨s1.next hI h9, s2.next hI hr9⟩
theorem sg_fin4 {bz : Nat → Nat} (hD : sg_Ok D) (hI : sg_Inv D nm st nu sp lf rt tp) {x : Nat} (hx : x < tp) (hc : st x = 4) (hi : (nm x).2 ≤ 21) (h9 : st (lf x) = 9) (hr9 : st (rt x) = 9) : sg_Fx D nm st tp bz x (va_up (va_up st tp 4) x 9) (va_up (va_up nu tp 0) x (nu (lf x) * nu (rt x))) (va_up sp tp 0) (va_up (va_up lf tp (lf (lf x))) x tp) (va_up rt tp (lf (rt x))) (tp + 1) (va_up (va_up bz x 0) tp 0) := by
  obtain ⟨hk, hs⟩ := hI.su hx (by omega)
  obtain ⟨ho, -, hlx, hrx⟩ := hI.rng hx
  have hll := (hI.rng hlx).2.2.1
  have hlr := (hI.rng hrx).2.2.1
  have ha := hI.ah hx
  rw [hc] at hk hs
  obtain ⟨s1, s2⟩ := hs
  exact sg_fin hI hx (by omega) hc hi (by omega) (sg_Is.k4 hD ho hk.symm ha (s1.is hD hI h9) (s2.is hD hI hr9)) hll hlr ⟨s1.next hI h9, s2.next hI hr9⟩
/-- what a merge works on next -/
def sg_ml (nu : Nat → Int32) (lf : Nat → Nat) (l r : Nat) : Nat := if nu l ≤ nu r then lf l else l
theorem sg_fin8 {bz : Nat → Nat} (hD : sg_Ok D) (hI : sg_Inv D nm st nu sp lf rt tp) {x : Nat} (hx : x < tp) (hc : st x = 8) (hi : (nm x).2 ≤ 21) (h9 : st (lf x) = 9) (hr9 : st (rt x) = 9) : sg_Fx D nm st tp bz x (va_up (va_up st tp 8) x 9) (va_up (va_up nu tp 0) x (sg_min (nu (lf x)) (nu (rt x)))) (va_up sp tp 0) (va_up (va_up lf tp (sg_ml nu lf (lf x) (rt x))) x tp) (va_up rt tp (sg_ml nu lf (rt x) (lf x))) (tp + 1) (va_up (va_up bz x 0) tp 0) := by
  obtain ⟨hk, hs⟩ := hI.su hx (by omega)
  obtain ⟨ho, -, hlx, hrx⟩ := hI.rng hx
  have hll := (hI.rng hlx).2.2.1
  have hlr := (hI.rng hrx).2.2.1
  have ha := hI.ah hx
  rw [hc] at hk hs
  obtain ⟨pq, s0, s1, s2⟩ := hs
  have hsa := (hD.a ho (by rw [← hk]; simp [sg_usA])).1
  have hsb := (hD.b ho (by rw [← hk]; simp [sg_usB])).1
  refine sg_fin hI hx (by omega) hc hi (by omega) (sg_Is.k8 hD ho hk.symm ha s0 (s1.is hD hI h9) (s2.is hD hI hr9)) ?_ ?_ ⟨_, s0.succ hD hsa hsb (s1.is hD hI h9) (s2.is hD hI hr9), ?_, ?_⟩
  · unfold sg_ml
    split <;> omega
  · unfold sg_ml
    split <;> omega
  · unfold sg_ml sg_nx
    show sg_Rep D nm st tp (if nu (lf x) ≤ nu (rt x) then lf (lf x) else lf x) (sg_sa D (nm x).1) (if nu (lf x) ≤ nu (rt x) then pq.1 + 1 else pq.1)
    split
    · exact s1.next hI h9
    · exact s1
  · unfold sg_ml sg_nx
    show sg_Rep D nm st tp (if nu (rt x) ≤ nu (lf x) then lf (rt x) else rt x) (sg_sb D (nm x).1) (if nu (rt x) ≤ nu (lf x) then pq.2 + 1 else pq.2)
    split
    · exact s2.next hI hr9
    · exact s2
theorem sg_fin2 {bz : Nat → Nat} (hI : sg_Inv D nm st nu sp lf rt tp) {x : Nat} (hx : x < tp) (hc : st x = 2) (h9 : st (lf x) = 9) (hz : st (sg_fo st lf (lf (lf x))) = 9) : sg_Fx D nm st tp bz x (va_up st x 10) nu sp (va_up lf x (sg_fo (va_up st x 10) lf (lf (lf x)))) rt tp (va_up bz x 0) := by
  obtain ⟨h6, hne, h⟩ := hI.link hx hc h9 hz
  have e : sg_fo (va_up st x 10) lf (lf (lf x)) = sg_fo st lf (lf (lf x)) := by
    unfold sg_fo
    rw [sg_un hne]
  rw [e]
  exact ⟨nm, h, fun _ _ => rfl, fun y hy hne' => sg_un hne', by rw [sg_us]; omega, Or.inr ⟨rfl, hc, h6⟩, fun y hy hne' => sg_un hne', sg_us _ _ _, fun y h1 h2 => by omega⟩
/-- the graph at the start: one node for each sequence -/
theorem sg_Inv.start (hD : sg_Ok D) (hn : ∀ x, nm x = (x, 0)) (h : ∀ s, s < 6 → (sg_kd D s = 1 ∧ st s = 9 ∧ nu s = sg_na D s ∧ lf s = sg_sb D s ∧ rt s = 0) ∨ (sg_kd D s = 0 ∧ st s = 0 ∧ nu s = sg_na D s ∧ sp s = sg_nb D s ∧ lf s = 0 ∧ rt s = 0) ∨ (sg_kd D s = 5 ∧ st s = 5 ∧ nu s = sg_na D s ∧ lf s = sg_sb D s ∧ rt s = 0) ∨ ((sg_kd D s = 2 ∨ sg_kd D s = 6) ∧ st s = sg_kd D s ∧ nu s = 0 ∧ lf s = sg_sa D s ∧ rt s = 0) ∨ ((sg_kd D s = 3 ∨ sg_kd D s = 4 ∨ sg_kd D s = 7 ∨ sg_kd D s = 8) ∧ st s = sg_kd D s ∧ nu s = 0 ∧ lf s = sg_sa D s ∧ rt s = sg_sb D s)) : sg_Inv D nm st nu sp lf rt 6 := by
  have ha : ∀ s, s < 6 → sg_usA (sg_kd D s) → sg_sa D s < 6 := fun s hs q => (hD.a hs q).1
  have hb : ∀ s, s < 6 → sg_usB (sg_kd D s) → sg_sb D s < 6 := fun s hs q => (hD.b hs q).1
  have hr : ∀ t, t < 6 → sg_Rep D nm st 6 t t 0 := fun t ht => sg_Rep.nm ht ht (hn t)
  refine ⟨Nat.le_refl _, fun s _ => hn s, fun x hx => ?_, fun x y _ _ e => ?_, fun x i hx e => ?_, fun x hx => ?_⟩
  · rw [hn x]
    refine ⟨hx, by show 0 ≤ 22; omega, ?_⟩
    have h1 := ha x hx
    have h2 := hb x hx
    rcases h x hx with ⟨q, -, -, e1, e2⟩ | ⟨q, -, -, -, e1, e2⟩ | ⟨q, -, -, e1, e2⟩ | ⟨q, -, -, e1, e2⟩ | ⟨q, -, -, e1, e2⟩
    · rw [e1, e2]
      exact ⟨h2 (by rw [q]; simp [sg_usB]), by omega⟩
    · rw [e1, e2]
      exact ⟨by omega, by omega⟩
    · rw [e1, e2]
      exact ⟨h2 (by rw [q]; simp [sg_usB]), by omega⟩
    · rw [e1, e2]
      exact ⟨h1 (by unfold sg_usA; omega), by omega⟩
    · rw [e1, e2]
      exact ⟨h1 (by unfold sg_usA; omega), h2 (by unfold sg_usB; omega)⟩
  · rw [hn x, hn y] at e
    exact (Prod.mk.inj e).1
  · rw [hn x] at e
    exact absurd e (by simp)
  · unfold sg_No
    rw [hn x]
    show (st x = 9 ∧ sg_Ce D nm st 6 x 0 (nu x) (lf x)) ∨ (st x = 10 ∧ sg_Li D nm st 6 x 0 (lf x)) ∨ (st x = sg_kd D x ∧ sg_Su D nm st 6 (st x) x 0 (nu x) (sp x) (lf x) (rt x))
    have h1 := ha x hx
    have h2 := hb x hx
    rcases h x hx with ⟨q, e0, e3, e1, e2⟩ | ⟨q, e0, e3, e4, e1, e2⟩ | ⟨q, e0, e3, e1, e2⟩ | ⟨q, e0, e3, e1, e2⟩ | ⟨q, e0, e3, e1, e2⟩
    · refine Or.inl ⟨e0, by omega, by rw [e3]; exact sg_Is.k1 hD hx q, Or.inl ⟨q, rfl, ?_⟩⟩
      rw [e1]
      exact hr _ (h2 (by rw [q]; simp [sg_usB]))
    · refine Or.inr (Or.inr ⟨by omega, ?_⟩)
      rw [e0]
      refine ⟨?_, e4⟩
      rw [e3, nI_0]
      grind
    · refine Or.inr (Or.inr ⟨by omega, ?_⟩)
      rw [e0]
      refine ⟨e3, ?_⟩
      rw [e1]
      exact hr _ (h2 (by rw [q]; simp [sg_usB]))
    · refine Or.inr (Or.inr ⟨e0, ?_⟩)
      rw [e0, e1, e3]
      have h1 := hr _ (h1 (by unfold sg_usA; omega))
      rcases q with q | q
      · rw [q]
        exact ⟨rfl, h1⟩
      · rw [q]
        exact ⟨sg_IsS.zero, h1⟩
    · refine Or.inr (Or.inr ⟨e0, ?_⟩)
      rw [e0, e1, e2]
      have h1 := hr _ (h1 (by unfold sg_usA; omega))
      have h2 := hr _ (h2 (by unfold sg_usB; omega))
      rcases q with q | q | q | q
      · rw [q]
        exact ⟨h1, h2⟩
      · rw [q]
        exact ⟨h1, h2⟩
      · rw [q]
        exact ⟨fun _ => ⟨h1, h2⟩, fun e => absurd e (by omega)⟩
      · rw [q]
        exact ⟨(0, 0), sg_IsW.zero, h1, h2⟩
end
end
section
/-! THE REFERENCE: its table, its sweeps -/
/-- the table in the two arrays of 126 -/
def sg_tb (hs : Nat → Nat) (vl : Nat → Int32) : sg_T := fun s k => if k ≤ 20 ∧ hs (21 * s + k) ≠ 0 then some (vl (21 * s + k)) else none
theorem sg_tb_some {hs : Nat → Nat} {vl : Nat → Int32} {s k : Nat} {v : Int32} (h : sg_tb hs vl s k = some v) : k ≤ 20 ∧ hs (21 * s + k) ≠ 0 ∧ vl (21 * s + k) = v := by
  unfold sg_tb at h
  by_cases c : k ≤ 20 ∧ hs (21 * s + k) ≠ 0
  · rw [if_pos c] at h
    exact ⟨c.1, c.2, Option.some.inj h⟩
  · rw [if_neg c] at h
    exact absurd h (by simp)
theorem sg_tb_mk {hs : Nat → Nat} {vl : Nat → Int32} {s k : Nat} (h1 : k ≤ 20) (h2 : hs (21 * s + k) ≠ 0) : sg_tb hs vl s k = some (vl (21 * s + k)) := by
  unfold sg_tb
  rw [if_pos ⟨h1, h2⟩]
/-- entries follow the rules, and are true -/
def sg_Mi (D : sg_D) (T : sg_T) : Prop := (∀ s k v, s < 6 → T s k = some v → sg_F D T s k = some v) ∧ ∃ N, sg_le T (sg_Tb D N)
def sg_Nd (D : sg_D) (T : sg_T) (s k : Nat) : Prop := ∃ v, sg_F D T s k = some v
def sg_Aw (T : sg_T) (s k : Nat) : Prop := k = 0 ∨ ∃ w, T s (k - 1) = some w
theorem sg_Mi.empty {D : sg_D} {T : sg_T} (h : ∀ s k, s < 6 → T s k = none) : sg_Mi D T := ⟨fun s k v hs hv => by rw [h s k hs] at hv; exact absurd hv (by simp), 0, fun s k v hs hv => by rw [h s k hs] at hv; exact absurd hv (by simp)⟩
theorem sg_Mi.pre1 {D : sg_D} {T : sg_T} (h : sg_Mi D T) {s k : Nat} {v : Int32} (hs : s < 6) (hv : T s (k + 1) = some v) : ∃ w, T s k = some w := by
  rcases (sg_F_some (h.1 s (k + 1) v hs hv)).1 with q | q
  · exact absurd q (by omega)
  · exact q
theorem sg_Mi.pre {D : sg_D} {T : sg_T} (h : sg_Mi D T) {s : Nat} (hs : s < 6) : ∀ (d k : Nat) (v : Int32), T s (k + d) = some v → ∃ w, T s k = some w := by
  intro d
  induction d with
  | zero => intro k v hv; exact ⟨v, hv⟩
  | succ d ih =>
    intro k v hv
    obtain ⟨w, hw⟩ := h.pre1 hs (k := k + d) hv
    exact ih k w hw
theorem sg_Mi.sum {D : sg_D} {T : sg_T} (h : sg_Mi D T) {s k : Nat} {v : Int32} (hs : s < 6) (hv : T s k = some v) : ∀ n, n ≤ k + 1 → ∃ w, sg_sum T s n = some w := by
  intro n
  induction n with
  | zero => intro _; exact ⟨0, rfl⟩
  | succ n ih =>
    intro hn
    obtain ⟨w, hw⟩ := ih (by omega)
    obtain ⟨u, hu⟩ := h.pre hs (k - n) n v (by rw [show n + (k - n) = k by omega]; exact hv)
    refine ⟨w + u, ?_⟩
    unfold sg_sum
    rw [hw, hu]
    rfl
theorem sg_Mi.wk {D : sg_D} {T : sg_T} (h : sg_Mi D T) {s k : Nat} (hs : s < 6) (hk : sg_kd D s = 8) (ha : sg_Aw T s k) : ∃ pq, sg_wk T (sg_sa D s) (sg_sb D s) k = some pq := by
  rcases ha with rfl | ⟨w, hw⟩
  · exact ⟨(0, 0), rfl⟩
  · cases k with
    | zero => exact ⟨(0, 0), rfl⟩
    | succ k =>
      have hf := (sg_F_some (h.1 s k w hs hw)).2
      rw [hk] at hf
      unfold sg_G at hf
      cases hq : sg_wk T (sg_sa D s) (sg_sb D s) k with
      | none => rw [hq] at hf; exact absurd hf (by simp)
      | some pq =>
        rw [hq] at hf
        have hf : sg_2 sg_min (T (sg_sa D s) pq.1) (T (sg_sb D s) pq.2) = some w := hf
        obtain ⟨a, b, h1, h2, -⟩ := sg_2_some hf
        exact ⟨_, sg_wk_mk hq h1 h2⟩
theorem sg_Nd.no {D : sg_D} {T : sg_T} {s k : Nat} (h : ¬ sg_Aw T s k) : ¬ sg_Nd D T s k := fun ⟨_, hv⟩ => h (sg_F_some hv).1
theorem sg_Nd.iff {D : sg_D} {T : sg_T} {s k c : Nat} (hk : sg_kd D s = c) (ha : sg_Aw T s k) : sg_Nd D T s k ↔ ∃ v, sg_G D T s k c = some v := by
  subst hk
  exact ⟨fun ⟨v, hv⟩ => ⟨v, (sg_F_some hv).2⟩, fun ⟨v, hv⟩ => ⟨v, sg_F_mk ha hv⟩⟩
theorem sg_Nd.k0 {D : sg_D} {T : sg_T} {s k : Nat} (hk : sg_kd D s = 0) (ha : sg_Aw T s k) : sg_Nd D T s k := (sg_Nd.iff hk ha).mpr ⟨_, rfl⟩
theorem sg_Nd.k1z {D : sg_D} {T : sg_T} {s : Nat} (hk : sg_kd D s = 1) : sg_Nd D T s 0 := (sg_Nd.iff hk (Or.inl rfl)).mpr ⟨_, rfl⟩
theorem sg_Nd.k1 {D : sg_D} {T : sg_T} {s k : Nat} (hk : sg_kd D s = 1) (ha : sg_Aw T s k) (h0 : k ≠ 0) : sg_Nd D T s k ↔ ∃ v, T (sg_sb D s) (k - 1) = some v := by
  rw [sg_Nd.iff hk ha]
  show (∃ v, (if k = 0 then some (sg_na D s) else T (sg_sb D s) (k - 1)) = some v) ↔ _
  rw [if_neg h0]
theorem sg_Nd.k2 {D : sg_D} {T : sg_T} {s k : Nat} (hk : sg_kd D s = 2) (ha : sg_Aw T s k) : sg_Nd D T s k ↔ ∃ v, T (sg_sa D s) (k + 1) = some v := sg_Nd.iff hk ha
theorem sg_2_iff {f : Int32 → Int32 → Int32} {x y : Option Int32} : (∃ v, sg_2 f x y = some v) ↔ (∃ a, x = some a) ∧ ∃ b, y = some b := by
  constructor
  · rintro ⟨v, h⟩
    obtain ⟨a, b, h1, h2, -⟩ := sg_2_some h
    exact ⟨⟨a, h1⟩, ⟨b, h2⟩⟩
  · rintro ⟨⟨a, h1⟩, ⟨b, h2⟩⟩
    rw [h1, h2]
    exact ⟨_, rfl⟩
theorem sg_Nd.k3 {D : sg_D} {T : sg_T} {s k : Nat} (hk : sg_kd D s = 3) (ha : sg_Aw T s k) : sg_Nd D T s k ↔ (∃ v, T (sg_sa D s) k = some v) ∧ ∃ v, T (sg_sb D s) k = some v := (sg_Nd.iff hk ha).trans sg_2_iff
theorem sg_Nd.k4 {D : sg_D} {T : sg_T} {s k : Nat} (hk : sg_kd D s = 4) (ha : sg_Aw T s k) : sg_Nd D T s k ↔ (∃ v, T (sg_sa D s) k = some v) ∧ ∃ v, T (sg_sb D s) k = some v := (sg_Nd.iff hk ha).trans sg_2_iff
theorem sg_Nd.k5 {D : sg_D} {T : sg_T} {s k : Nat} (hk : sg_kd D s = 5) (ha : sg_Aw T s k) : sg_Nd D T s k ↔ ∃ v, T (sg_sb D s) k = some v := ((sg_Nd.iff hk ha).trans sg_2_iff).trans ⟨fun h => h.2, fun h => ⟨⟨_, rfl⟩, h⟩⟩
theorem sg_Nd.k6 {D : sg_D} {T : sg_T} (hM : sg_Mi D T) {s k : Nat} (h6 : sg_sa D s < 6) (hk : sg_kd D s = 6) (ha : sg_Aw T s k) : sg_Nd D T s k ↔ ∃ v, T (sg_sa D s) k = some v := by
  rw [sg_Nd.iff hk ha]
  constructor
  · rintro ⟨v, h⟩
    have h : sg_2 (fun x y => x + y) (sg_sum T (sg_sa D s) k) (T (sg_sa D s) k) = some v := h
    obtain ⟨a, b, -, h2, -⟩ := sg_2_some h
    exact ⟨b, h2⟩
  · rintro ⟨v, h⟩
    exact hM.sum h6 h (k + 1) (Nat.le_refl _)
theorem sg_Nd.k7e {D : sg_D} {T : sg_T} {s k : Nat} (hk : sg_kd D s = 7) (ha : sg_Aw T s k) (he : k % 2 = 0) : sg_Nd D T s k ↔ ∃ v, T (sg_sa D s) (k / 2) = some v := by
  rw [sg_Nd.iff hk ha]
  show (∃ v, (if k % 2 = 0 then T (sg_sa D s) (k / 2) else T (sg_sb D s) (k / 2)) = some v) ↔ _
  rw [if_pos he]
theorem sg_Nd.k7o {D : sg_D} {T : sg_T} {s k : Nat} (hk : sg_kd D s = 7) (ha : sg_Aw T s k) (he : ¬ k % 2 = 0) : sg_Nd D T s k ↔ ∃ v, T (sg_sb D s) (k / 2) = some v := by
  rw [sg_Nd.iff hk ha]
  show (∃ v, (if k % 2 = 0 then T (sg_sa D s) (k / 2) else T (sg_sb D s) (k / 2)) = some v) ↔ _
  rw [if_neg he]
theorem sg_Nd.k8 {D : sg_D} {T : sg_T} {s k : Nat} {pq : Nat × Nat} (hk : sg_kd D s = 8) (ha : sg_Aw T s k) (hw : sg_wk T (sg_sa D s) (sg_sb D s) k = some pq) : sg_Nd D T s k ↔ (∃ v, T (sg_sa D s) pq.1 = some v) ∧ ∃ v, T (sg_sb D s) pq.2 = some v := by
  rw [sg_Nd.iff hk ha, ← sg_2_iff (f := sg_min)]
  show (∃ v, (match sg_wk T (sg_sa D s) (sg_sb D s) k with
    | none => none
    | some pq => sg_2 sg_min (T (sg_sa D s) pq.1) (T (sg_sb D s) pq.2)) = some v) ↔ _
  rw [hw]
/-- one entry more -/
theorem sg_tb_add {hs : Nat → Nat} {vl : Nat → Int32} {s k : Nat} {v : Int32} (hs6 : s < 6) (hk : k ≤ 20) : ∀ t j, t < 6 → sg_tb (va_up hs (21 * s + k) 1) (va_up vl (21 * s + k) v) t j = if t = s ∧ j = k then some v else sg_tb hs vl t j := by
  intro t j ht
  by_cases e : t = s ∧ j = k
  · rw [if_pos e, e.1, e.2]
    rw [sg_tb_mk hk (by rw [sg_us]; omega), sg_us]
  · rw [if_neg e]
    unfold sg_tb
    by_cases hj : j ≤ 20
    · have hne : 21 * t + j ≠ 21 * s + k := fun q => e ⟨by omega, by omega⟩
      rw [sg_un hne, sg_un hne]
    · rw [if_neg (fun c => hj c.1), if_neg (fun c => hj c.1)]
theorem sg_Mi.add {D : sg_D} (hD : sg_Ok D) {hs : Nat → Nat} {vl : Nat → Int32} {s k : Nat} {v : Int32} (hM : sg_Mi D (sg_tb hs vl)) (hs6 : s < 6) (hk : k ≤ 20) (h0 : hs (21 * s + k) = 0) (hv : sg_F D (sg_tb hs vl) s k = some v) : sg_Mi D (sg_tb (va_up hs (21 * s + k) 1) (va_up vl (21 * s + k) v)) := by
  have hn : sg_tb hs vl s k = none := by
    unfold sg_tb
    rw [if_neg (fun c => c.2 h0)]
  have hle : sg_le (sg_tb hs vl) (sg_tb (va_up hs (21 * s + k) 1) (va_up vl (21 * s + k) v)) := fun t j w ht hw => by
    rw [sg_tb_add hs6 hk t j ht]
    rw [if_neg (fun c => by rw [c.1, c.2, hn] at hw; exact absurd hw (by simp))]
    exact hw
  refine ⟨fun t j w ht hw => ?_, ?_⟩
  · rw [sg_tb_add hs6 hk t j ht] at hw
    by_cases e : t = s ∧ j = k
    · rw [if_pos e] at hw
      rw [e.1, e.2, ← Option.some.inj hw]
      exact sg_F_le hD hle s k v hs6 hv
    · rw [if_neg e] at hw
      exact sg_F_le hD hle t j w ht (hM.1 t j w ht hw)
  · obtain ⟨N, hN⟩ := hM.2
    refine ⟨N + 1, fun t j w ht hw => ?_⟩
    rw [sg_tb_add hs6 hk t j ht] at hw
    by_cases e : t = s ∧ j = k
    · rw [if_pos e] at hw
      rw [e.1, e.2, ← Option.some.inj hw]
      exact sg_F_le hD hN s k v hs6 hv
    · rw [if_neg e] at hw
      exact sg_Tb_1 hD N t j w ht (hN t j w ht hw)
/-- how many entries -/
def sg_ct (hs : Nat → Nat) : Nat → Nat
  | 0 => 0
  | n + 1 => sg_ct hs n + (if hs n = 0 then 0 else 1)
theorem sg_ct_le (hs : Nat → Nat) : ∀ n, sg_ct hs n ≤ n := by
  intro n
  induction n with
  | zero => exact Nat.le_refl _
  | succ n ih =>
    unfold sg_ct
    split <;> omega
theorem sg_ct_ge {hs : Nat → Nat} {i : Nat} : ∀ n, n ≤ i → sg_ct (va_up hs i 1) n = sg_ct hs n := by
  intro n
  induction n with
  | zero => intro _; rfl
  | succ n ih =>
    intro h
    unfold sg_ct
    rw [ih (by omega), sg_un (by omega)]
theorem sg_ct_add {hs : Nat → Nat} {i : Nat} (h0 : hs i = 0) : ∀ n, i < n → sg_ct (va_up hs i 1) n = sg_ct hs n + 1 := by
  intro n
  induction n with
  | zero => intro h; omega
  | succ n ih =>
    intro h
    unfold sg_ct
    by_cases e : i = n
    · subst e
      rw [sg_ct_ge i (Nat.le_refl _), sg_us, if_neg (by omega), if_pos h0]
    · rw [ih (by omega), sg_un (fun q => e q.symm)]
      omega
/-- closed: nothing more to add -/
def sg_Cl (D : sg_D) (hs : Nat → Nat) (vl : Nat → Int32) : Prop := ∀ s k, s < 6 → k ≤ 20 → hs (21 * s + k) ≠ 0 ∨ ¬ sg_Nd D (sg_tb hs vl) s k
/-- what 'fill' leaves -/
def sg_Fl (D : sg_D) (hs : Nat → Nat) (vl : Nat → Int32) : Prop := sg_Mi D (sg_tb hs vl) ∧ sg_Cl D hs vl
/-- element k of s, if it is ever there -/
noncomputable def sg_V (D : sg_D) (s k : Nat) : Option Int32 := @dite (Option Int32) (∃ v, sg_Is D s k v) (Classical.propDecidable _) (fun h => some h.choose) (fun _ => none)
theorem sg_V_some {D : sg_D} (hD : sg_Ok D) {s k : Nat} {v : Int32} (hs : s < 6) (h : sg_Is D s k v) : sg_V D s k = some v := by
  unfold sg_V
  have hx : ∃ v, sg_Is D s k v := ⟨v, h⟩
  show @dite (Option Int32) (∃ v, sg_Is D s k v) (Classical.propDecidable _) (fun h => some h.choose) (fun _ => none) = some v
  rw [dif_pos hx, hx.choose_spec.one hD hs h]
theorem sg_V_is {D : sg_D} {s k : Nat} {v : Int32} (h : sg_V D s k = some v) : sg_Is D s k v := by
  have h : @dite (Option Int32) (∃ v, sg_Is D s k v) (Classical.propDecidable _) (fun h => some h.choose) (fun _ => none) = some v := h
  by_cases hx : ∃ v, sg_Is D s k v
  · rw [dif_pos hx] at h
    rw [← Option.some.inj h]
    exact hx.choose_spec
  · rw [dif_neg hx] at h
    exact absurd h (by simp)
theorem sg_V_none {D : sg_D} {s k : Nat} (h : ∀ n, sg_Tb D n s k = none) : sg_V D s k = none := by
  cases hv : sg_V D s k with
  | none => rfl
  | some v =>
    obtain ⟨n, hn⟩ := sg_V_is hv
    rw [h n] at hn
    exact absurd hn (by simp)
theorem sg_V_up {D : sg_D} (hD : sg_Ok D) {s j k : Nat} (hs : s < 6) (hj : j ≤ k) (h : sg_V D s j = none) : sg_V D s k = none := by
  cases hv : sg_V D s k with
  | none => rfl
  | some v =>
    obtain ⟨w, hw⟩ := (sg_V_is hv).pre hD hs hj
    rw [sg_V_some hD hs hw] at h
    exact absurd h (by simp)
/-- the table answers as the elements are, up to index 15 -/
theorem sg_Fl.v {D : sg_D} (hD : sg_Ok D) {hs : Nat → Nat} {vl : Nat → Int32} (h : sg_Fl D hs vl) {s k : Nat} (hs6 : s < 6) (hk : k ≤ 15) : sg_tb hs vl s k = sg_V D s k := by
  have hT : ∀ s k v, s < 6 → k ≤ 20 → sg_F D (sg_tb hs vl) s k = some v → sg_tb hs vl s k = some v := fun s k v hs6 hk hv => by
    rcases h.2 s k hs6 hk with q | q
    · have e := sg_tb_mk (vl := vl) hk q
      have e2 := h.1.1 s k _ hs6 e
      rw [hv] at e2
      rw [e, Option.some.inj e2]
    · exact absurd ⟨v, hv⟩ q
  cases hv : sg_V D s k with
  | some v => exact sg_close15 hD hT hs6 hk (sg_V_is hv)
  | none =>
    cases hw : sg_tb hs vl s k with
    | none => rfl
    | some w =>
      obtain ⟨N, hN⟩ := h.1.2
      rw [sg_V_some hD hs6 ⟨N, hN s k w hs6 hw⟩] at hv
      exact absurd hv (by simp)
end
section
/-! THE ANSWERS, out of the elements -/
def sg_kn (V : Nat → Option Int32) : Nat → Nat
  | 0 => 0
  | n + 1 => sg_kn V n + (if V n = none then 0 else 1)
theorem sg_kn_le (V : Nat → Option Int32) : ∀ n, sg_kn V n ≤ n := by
  intro n
  induction n with
  | zero => exact Nat.le_refl _
  | succ n ih =>
    unfold sg_kn
    split <;> omega
theorem sg_kn_all {V : Nat → Option Int32} : ∀ n, (∀ j, j < n → V j ≠ none) → sg_kn V n = n := by
  intro n
  induction n with
  | zero => intro _; rfl
  | succ n ih =>
    intro h
    unfold sg_kn
    rw [ih (fun j hj => h j (by omega)), if_neg (h n (by omega))]
theorem sg_kn_stop {V : Nat → Option Int32} {k : Nat} (h1 : ∀ j, j < k → V j ≠ none) (h2 : ∀ j, k ≤ j → V j = none) : ∀ d, sg_kn V (k + d) = k := by
  intro d
  induction d with
  | zero => exact sg_kn_all k h1
  | succ d ih =>
    show sg_kn V (k + d) + (if V (k + d) = none then 0 else 1) = k
    rw [ih, if_pos (h2 _ (by omega))]
    rfl
def sg_above (V : Nat → Option Int32) (v : Int32) (k : Nat) : Prop := ∃ w, V k = some w ∧ v < w
def sg_FA (V : Nat → Option Int32) (v r : Int32) : Prop := (∃ k, k ≤ 15 ∧ r = nI k ∧ sg_above V v k ∧ ∀ j, j < k → ¬ sg_above V v j) ∨ (r = -2 ∧ ∀ j, j ≤ 15 → ¬ sg_above V v j)
theorem sg_FA.one {V : Nat → Option Int32} {v r r' : Int32} (h : sg_FA V v r) (h' : sg_FA V v r') : r = r' := by
  rcases h with ⟨k, a1, a2, a3, a4⟩ | ⟨a1, a2⟩
  · rcases h' with ⟨k', b1, b2, b3, b4⟩ | ⟨b1, b2⟩
    · have : k = k' := by
        rcases Nat.lt_trichotomy k k' with q | q | q
        · exact absurd a3 (b4 k q)
        · exact q
        · exact absurd b3 (a4 k' q)
      rw [a2, b2, this]
    · exact absurd a3 (b2 k a1)
  · rcases h' with ⟨k', b1, b2, b3, b4⟩ | ⟨b1, b2⟩
    · exact absurd b3 (a2 k' b1)
    · rw [a1, b1]
def sg_ag (V W : Nat → Option Int32) : Nat → Nat
  | 0 => 0
  | n + 1 => sg_ag V W n + (if V n ≠ none ∧ V n = W n then 1 else 0)
theorem sg_ag_le (V W : Nat → Option Int32) : ∀ n, sg_ag V W n ≤ n := by
  intro n
  induction n with
  | zero => exact Nat.le_refl _
  | succ n ih =>
    unfold sg_ag
    split <;> omega
theorem sg_ag_stop {V W : Nat → Option Int32} {k : Nat} (h2 : ∀ j, k ≤ j → V j = none ∨ W j = none) : ∀ d, sg_ag V W (k + d) = sg_ag V W k := by
  intro d
  induction d with
  | zero => rfl
  | succ d ih =>
    show sg_ag V W (k + d) + (if V (k + d) ≠ none ∧ V (k + d) = W (k + d) then 1 else 0) = sg_ag V W k
    rw [ih, if_neg]
    · rfl
    · rintro ⟨c1, c2⟩
      rcases h2 (k + d) (by omega) with q | q
      · exact c1 q
      · rw [q] at c2
        exact c1 c2
end
section
/-! ROWS OF OUR OWN over the kit's: what stays fixed in a walk (cx_C), the world (cx_W), contracts (cx_Mi, cx_Mv) -/
abbrev vwCl : List vw_C := [(RX0, TX0, 16), (RX1, TX1, 7)]
def cx_C (p : Program) (m : MethodId) (c : Code) (cc : ByteArray) (s : State) (args : Array Value) (own : String) : Prop := p.tables.exec = Jvm.exec ∧ c.code = cc ∧ s.vm.findClass own = some m.cls ∧ ∀ w ∈ lw_all, w.before args s = true
def cx_W (D : va_G) (tys : List (ClassId × FieldType)) (A : Nat → Prop) (s : State) (H0 H : Heap) (locs : List Loc) (ws : va_W) : Prop := va_K D vwCl tys s ∧ va_P D vwCl ws H ∧ va_D A ws ∧ va_S A H0 H locs ∧ ∀ q, H0.size ≤ q → A q
def cx_Pre (D : va_G) (tys : List (ClassId × FieldType)) (ws : va_W) (sz : Nat) : State → Prop := fun U => U.heap.size = sz ∧ va_P D vwCl ws U.heap ∧ va_K D vwCl tys U ∧ va_D (fun _ => True) ws
def cx_B {S : Type} (D : va_G) (tys : List (ClassId × FieldType)) (wd : S → va_W) (A : Nat → Prop) : S → State → Prop := fun u t => va_P D vwCl (wd u) t.heap ∧ va_K D vwCl tys t ∧ va_D A (wd u)
/-- a contract: 'this' is the cell ad 0, av the other arguments; an int (or boolean) comes back -/
def cx_Mi (l : Launch) {S : Type} (y : MethodName) (code : ByteArray) (maxL : Nat) (ret : Option FieldType) (rm : Room) (wd : (Nat → Nat) → (Nat → ClassId) → S → va_W) (tys : (Nat → ClassId) → List (ClassId × FieldType)) (av : List Value) (pre : S → Prop) (post : S → Int32 → S → Prop) : Prop :=
  ∀ (D : va_G) (ad : Nat → Nat) (ct : Nat → ClassId) (sz : Nat) (u : S), pre u → Met l y (ws_ y code maxL ret) rm (va_Pc (.ref (ad 0) :: av) (cx_Pre D (tys ct) (wd ad ct u) sz)) (va_Qi (post u) (cx_B D (tys ct) (wd ad ct) (va_A (wd ad ct u) sz)) (va_A (wd ad ct u) sz)) 0 0 (va_A (wd ad ct u) sz)
def cx_Mv (l : Launch) {S : Type} (y : MethodName) (code : ByteArray) (maxL : Nat) (rm : Room) (wd : (Nat → Nat) → (Nat → ClassId) → S → va_W) (tys : (Nat → ClassId) → List (ClassId × FieldType)) (av : List Value) (pre : S → Prop) (post : S → S → Prop) : Prop :=
  ∀ (D : va_G) (ad : Nat → Nat) (ct : Nat → ClassId) (sz : Nat) (u : S), pre u → Met l y (ws_ y code maxL none) rm (va_Pc (.ref (ad 0) :: av) (cx_Pre D (tys ct) (wd ad ct u) sz)) (va_Qv (post u) (cx_B D (tys ct) (wd ad ct) (va_A (wd ad ct u) sz)) (va_A (wd ad ct u) sz)) 0 0 (va_A (wd ad ct u) sz)
theorem cx_Mi.of {l : Launch} {S : Type} {y : MethodName} {code : ByteArray} {maxL : Nat} {ret : Option FieldType} {rm : Room} {wd : (Nat → Nat) → (Nat → ClassId) → S → va_W} {tys : (Nat → ClassId) → List (ClassId × FieldType)} {av : List Value} {pre : S → Prop} {post : S → Int32 → S → Prop} (hy : plainName y.cls = true) (hn : ∀ ad : Nat → Nat, (lg_sl (Value.ref (ad 0) :: av)).length ≤ maxL)
    (body : ∀ (p : Program) (e : Env) (s : State) (m : MethodId) (below : List Frame) (meth : Method) (c : Code) (D : va_G) (ad : Nat → Nat) (ct : Nat → ClassId) (A : Nat → Prop) (u : S) (ls : Array Slot), pre u → cx_C p m c code s (Value.ref (ad 0) :: av).toArray y.cls → c.maxLocals = maxL → meth.sig.returnType = ret → meth.locks = false → cx_W D (tys ct) A s s.heap s.heap [] (wd ad ct u) → lv_has ls maxL (lv_args 0 (Value.ref (ad 0) :: av)) →
      W p l e rm s m (Value.ref (ad 0) :: av).toArray below meth c s.heap [] 0 0 (MQ below (va_Qi (post u) (cx_B D (tys ct) (wd ad ct) A) A) (Value.ref (ad 0) :: av).toArray s 0 0 A) (F0 m 0 ls [])) : cx_Mi l y code maxL ret rm wd tys av pre post := by
  intro D ad ct sz u hpre
  refine Met.ofW (cc := code) (maxL := maxL) (ret := ret) hy rfl ?_
  intro p e s m args below meth c s₁ B hml hv
  obtain ⟨rfl, hsz, hP, hK, hD0⟩ := hv
  have hts := atoms_spec (ws := ws_ y code maxL ret) B.pre
  have hts : ∀ w ∈ lw_all, w.before _ s = true := fun w h => hts w (List.mem_cons_of_mem _ h)
  subst hsz
  have hl := lv_entry (Value.ref (ad 0) :: av) (n := maxL) (hn ad)
  rw [lg_entry_eq]
  exact body p e s m below meth c D ad ct _ u _ hpre ⟨B.exec, B.bytes, findClass_of_methodNamed B.named, hts⟩ hml B.returns B.notSynchronized ⟨hK, hP, hD0.self, va_S.rf, fun q h => Or.inr h⟩ hl
theorem cx_Mv.of {l : Launch} {S : Type} {y : MethodName} {code : ByteArray} {maxL : Nat} {rm : Room} {wd : (Nat → Nat) → (Nat → ClassId) → S → va_W} {tys : (Nat → ClassId) → List (ClassId × FieldType)} {av : List Value} {pre : S → Prop} {post : S → S → Prop} (hy : plainName y.cls = true) (hn : ∀ ad : Nat → Nat, (lg_sl (Value.ref (ad 0) :: av)).length ≤ maxL)
    (body : ∀ (p : Program) (e : Env) (s : State) (m : MethodId) (below : List Frame) (meth : Method) (c : Code) (D : va_G) (ad : Nat → Nat) (ct : Nat → ClassId) (A : Nat → Prop) (u : S) (ls : Array Slot), pre u → cx_C p m c code s (Value.ref (ad 0) :: av).toArray y.cls → c.maxLocals = maxL → meth.sig.returnType = none → meth.locks = false → cx_W D (tys ct) A s s.heap s.heap [] (wd ad ct u) → lv_has ls maxL (lv_args 0 (Value.ref (ad 0) :: av)) →
      W p l e rm s m (Value.ref (ad 0) :: av).toArray below meth c s.heap [] 0 0 (MQ below (va_Qv (post u) (cx_B D (tys ct) (wd ad ct) A) A) (Value.ref (ad 0) :: av).toArray s 0 0 A) (F0 m 0 ls [])) : cx_Mv l y code maxL rm wd tys av pre post := by
  intro D ad ct sz u hpre
  refine Met.ofW (cc := code) (maxL := maxL) (ret := none) hy rfl ?_
  intro p e s m args below meth c s₁ B hml hv
  obtain ⟨rfl, hsz, hP, hK, hD0⟩ := hv
  have hts := atoms_spec (ws := ws_ y code maxL none) B.pre
  have hts : ∀ w ∈ lw_all, w.before _ s = true := fun w h => hts w (List.mem_cons_of_mem _ h)
  subst hsz
  have hl := lv_entry (Value.ref (ad 0) :: av) (n := maxL) (hn ad)
  rw [lg_entry_eq]
  exact body p e s m below meth c D ad ct _ u _ hpre ⟨B.exec, B.bytes, findClass_of_methodNamed B.named, hts⟩ hml B.returns B.notSynchronized ⟨hK, hP, hD0.self, va_S.rf, fun q h => Or.inr h⟩ hl
section
variable {p : Program} {l : Launch} {e : Env} {R : Room} {s : State} {m : MethodId} {args : Array Value} {below : List Frame} {meth : Method} {c : Code} {H : Heap} {locs : List Loc} {cells slots : Nat} {Q : State → Prop}
variable {cc : ByteArray} {pc : Nat} {ls : Array Slot} {rest : List Value} {A : Nat → Prop} {H0 : Heap} {D : va_G} {ad : Nat → Nat} {ct : Nat → ClassId}

variable {S : Type} {wd : (Nat → Nat) → (Nat → ClassId) → S → va_W} {tys : (Nat → ClassId) → List (ClassId × FieldType)}
theorem cx_iret {own : String} {post : Int32 → S → Prop} {r : Int32} {u : S} (hC : cx_C p m c cc s args own) (hr : meth.sig.returnType = some .int) (hk : meth.locks = false) (hw : cx_W D (tys ct) A s s.heap H locs (wd ad ct u)) (hp : post r u) (hdg : decode cc pc = .ok (.ireturn, 1)) : W p l e R s m args below meth c H locs cells slots (MQ below (va_Qi post (cx_B D (tys ct) (wd ad ct) A) A) args s cells slots A) (F0 m pc ls [.int r]) :=
  W.iret (v := r) hC.1 hC.2.1 hr (fun t ht hW => ⟨⟨r, u, rfl, hp, by rw [ht]; exact hw.2.1, va_K.moved hW.alike hw.1, hw.2.2.1⟩, hw.2.2.2.1.F ht⟩) hw.2.2.2.1.2.2 hdg hk
theorem cx_zret {own : String} {post : Int32 → S → Prop} {r : Int32} {u : S} (hC : cx_C p m c cc s args own) (hr : meth.sig.returnType = some .boolean) (hk : meth.locks = false) (hw : cx_W D (tys ct) A s s.heap H locs (wd ad ct u)) (hz : r = 0 ∨ r = 1) (hp : post r u) (hdg : decode cc pc = .ok (.ireturn, 1)) : W p l e R s m args below meth c H locs cells slots (MQ below (va_Qi post (cx_B D (tys ct) (wd ad ct) A) A) args s cells slots A) (F0 m pc ls [.int r]) :=
  W.zret (v := r) hC.1 hC.2.1 hr (by rcases hz with rfl | rfl <;> rfl) (fun t ht hW => ⟨⟨r, u, rfl, hp, by rw [ht]; exact hw.2.1, va_K.moved hW.alike hw.1, hw.2.2.1⟩, hw.2.2.2.1.F ht⟩) hw.2.2.2.1.2.2 hdg hk
theorem cx_vret {own : String} {post : S → Prop} {u : S} (hC : cx_C p m c cc s args own) (hr : meth.sig.returnType = none) (hk : meth.locks = false) (hw : cx_W D (tys ct) A s s.heap H locs (wd ad ct u)) (hp : post u) (hdg : decode cc pc = .ok (.return_, 1)) : W p l e R s m args below meth c H locs cells slots (MQ below (va_Qv post (cx_B D (tys ct) (wd ad ct) A) A) args s cells slots A) (F0 m pc ls []) :=
  W.vret hC.1 hC.2.1 hr (fun t ht hW => ⟨⟨u, rfl, hp, by rw [ht]; exact hw.2.1, va_K.moved hW.alike hw.1, hw.2.2.1⟩, hw.2.2.2.1.F ht⟩) hw.2.2.2.1.2.2 hdg hk
/-- a call inside the class: the whole world goes along -/
theorem cx_calli {own C : String} {T : u_T} {N ci nL index maxL n : Nat} {y : MethodName} {code : ByteArray} {ret : Option FieldType} {rm : Room} {av st0 : List Value} {fs : List Value} {pre : S → Prop} {post : S → Int32 → S → Prop} {u : S} (hM : cx_Mi l y code maxL ret rm wd tys av pre post) (hC : cx_C p m c cc s args own) (hml : c.maxLocals = nL) (hls : ls.size = nL) (hw : cx_W D (tys ct) A s H0 H locs (wd ad ct u)) (hpre : pre u) (cw : CallW R s args own C index y code maxL ret (ws_ y code maxL ret) rm 0 0 n) (hcl : vwCl[ci]? = some (C, T, N)) (he : (wd ad ct u)[0]? = some (ad 0, .inr (ci, fs))) (hn : av.length = n) (hst : st0 = av.reverse ++ .ref (ad 0) :: rest) (hroom : (rest.map fun v => v.category).sum ≤ 8) (hdg : decode cc pc = .ok (.invokevirtual index, 3)) (hf : cells ≤ R.cells ∧ slots ≤ R.slots)
    (kk : ∀ (r : Int32) (u' : S) (H1 : Heap) (locs1 : List Loc), post u r u' → cx_W D (tys ct) A s H0 H1 locs1 (wd ad ct u') → W p l e R s m args below meth c H1 locs1 cells slots Q (F0 m (pc + 3) ls (.int r :: rest))) : W p l e R s m args below meth c H locs cells slots Q (F0 m pc ls st0) := by
  obtain ⟨hK, hP, hD, hS, hA⟩ := hw
  have hFc : ∀ q, va_A (wd ad ct u) H.size q → A q := fun q h => by
    rcases h with ⟨k, x, h⟩ | h
    · exact hD.2 k (q, x) h
    · exact hA q (Nat.le_trans hS.1 h)
  refine va_calli (va_runV (As := av) (rest := rest) ⟨hC.1, hC.2.1, hml, hC.2.2.1, hC.2.2.2⟩ (hM D ad ct H.size u hpre) cw ⟨fun a U g mk q => by obtain ⟨q0, q1, qP, qK, qD⟩ := q; exact ⟨q0, q1, qP, va_K.moved (u := U) (U := U.calling g mk a) (Vm.Alike.refl U.vm) qK, qD⟩, va_recv hK hP (ci := ci) (q0 := 0) hcl he, fun U hU hW => ⟨rfl, by rw [hU], by rw [hU]; exact hP, va_K.moved hW.alike hK, hD.weaken (fun _ _ _ _ => trivial)⟩⟩ rfl hn hls hst (lv_room hroom) hdg hf) hS (fun q _ h => hFc q h) hFc (fun r u' t H1 locs1 ht hvm hw1 hB hz1 hk1 hS1 => ?_)
  obtain ⟨hP1, hK1, hD1⟩ := hB
  rw [ht] at hP1
  exact kk r u' H1 locs1 hw1 ⟨hK, hP1, hD1.weaken (fun _ q _ h => hFc q.1 h), hS1, hA⟩
theorem cx_callv {own C : String} {T : u_T} {N ci nL index maxL n : Nat} {y : MethodName} {code : ByteArray} {rm : Room} {av st0 : List Value} {fs : List Value} {pre : S → Prop} {post : S → S → Prop} {u : S} (hM : cx_Mv l y code maxL rm wd tys av pre post) (hC : cx_C p m c cc s args own) (hml : c.maxLocals = nL) (hls : ls.size = nL) (hw : cx_W D (tys ct) A s H0 H locs (wd ad ct u)) (hpre : pre u) (cw : CallW R s args own C index y code maxL none (ws_ y code maxL none) rm 0 0 n) (hcl : vwCl[ci]? = some (C, T, N)) (he : (wd ad ct u)[0]? = some (ad 0, .inr (ci, fs))) (hn : av.length = n) (hst : st0 = av.reverse ++ .ref (ad 0) :: rest) (hroom : (rest.map fun v => v.category).sum ≤ 8) (hdg : decode cc pc = .ok (.invokevirtual index, 3)) (hf : cells ≤ R.cells ∧ slots ≤ R.slots)
    (kk : ∀ (u' : S) (H1 : Heap) (locs1 : List Loc), post u u' → cx_W D (tys ct) A s H0 H1 locs1 (wd ad ct u') → W p l e R s m args below meth c H1 locs1 cells slots Q (F0 m (pc + 3) ls rest)) : W p l e R s m args below meth c H locs cells slots Q (F0 m pc ls st0) := by
  obtain ⟨hK, hP, hD, hS, hA⟩ := hw
  have hFc : ∀ q, va_A (wd ad ct u) H.size q → A q := fun q h => by
    rcases h with ⟨k, x, h⟩ | h
    · exact hD.2 k (q, x) h
    · exact hA q (Nat.le_trans hS.1 h)
  refine va_callv (va_runV (As := av) (rest := rest) ⟨hC.1, hC.2.1, hml, hC.2.2.1, hC.2.2.2⟩ (hM D ad ct H.size u hpre) cw ⟨fun a U g mk q => by obtain ⟨q0, q1, qP, qK, qD⟩ := q; exact ⟨q0, q1, qP, va_K.moved (u := U) (U := U.calling g mk a) (Vm.Alike.refl U.vm) qK, qD⟩, va_recv hK hP (ci := ci) (q0 := 0) hcl he, fun U hU hW => ⟨rfl, by rw [hU], by rw [hU]; exact hP, va_K.moved hW.alike hK, hD.weaken (fun _ _ _ _ => trivial)⟩⟩ rfl hn hls hst (lv_room hroom) hdg hf) hS (fun q _ h => hFc q h) hFc (fun u' t H1 locs1 ht hvm hw1 hB hz1 hk1 hS1 => ?_)
  obtain ⟨hP1, hK1, hD1⟩ := hB
  rw [ht] at hP1
  exact kk u' H1 locs1 hw1 ⟨hK, hP1, hD1.weaken (fun _ q _ h => hFc q.1 h), hS1, hA⟩
/-! numbers that are nI of a Nat -/
theorem xn_inc (a : Nat) : nI a + Int32.ofInt 1 = nI (a + 1) := nI_1 a
theorem xn_iadd {own : String} {a b r : Nat} (hC : cx_C p m c cc s args own) (h : a + b = r) (hdg : decode cc pc = .ok (.iadd, 1)) (k : W p l e R s m args below meth c H locs cells slots Q (F0 m (pc + 1) ls (.int (nI r) :: rest))) : W p l e R s m args below meth c H locs cells slots Q (F0 m pc ls (.int (nI b) :: .int (nI a) :: rest)) :=
  lv_iadd hC.1 hC.2.1 hdg (by rw [nI_add, h]; exact k)
theorem xn_isub {own : String} {a b r : Nat} (hC : cx_C p m c cc s args own) (h : r + b = a) (hdg : decode cc pc = .ok (.isub, 1)) (k : W p l e R s m args below meth c H locs cells slots Q (F0 m (pc + 1) ls (.int (nI r) :: rest))) : W p l e R s m args below meth c H locs cells slots Q (F0 m pc ls (.int (nI b) :: .int (nI a) :: rest)) :=
  lv_isub hC.1 hC.2.1 hdg (by rw [← h, pk_sub (Nat.le_add_left b r), Nat.add_sub_cancel]; exact k)
theorem xn_imul {own : String} {a b r : Nat} (hC : cx_C p m c cc s args own) (h : a * b = r) (hdg : decode cc pc = .ok (.imul, 1)) (k : W p l e R s m args below meth c H locs cells slots Q (F0 m (pc + 1) ls (.int (nI r) :: rest))) : W p l e R s m args below meth c H locs cells slots Q (F0 m pc ls (.int (nI b) :: .int (nI a) :: rest)) :=
  lv_imul hC.1 hC.2.1 hdg (by rw [pk_mul, h]; exact k)
theorem xn_idiv {own : String} {a b r : Nat} (hC : cx_C p m c cc s args own) (ha : a < 2 ^ 31) (hb0 : 0 < b) (hb : b < 2 ^ 31) (h : a / b = r) (hdg : decode cc pc = .ok (.idiv, 1)) (k : W p l e R s m args below meth c H locs cells slots Q (F0 m (pc + 1) ls (.int (nI r) :: rest))) : W p l e R s m args below meth c H locs cells slots Q (F0 m pc ls (.int (nI b) :: .int (nI a) :: rest)) :=
  lv_idiv hC.1 hC.2.1 hdg (nI_ne0 hb0 hb) (by rw [pk_div ha hb0 hb, h]; exact k)
theorem xn_irem {own : String} {a b r : Nat} (hC : cx_C p m c cc s args own) (ha : a < 2 ^ 31) (hb0 : 0 < b) (hb : b < 2 ^ 31) (h : a % b = r) (hdg : decode cc pc = .ok (.irem, 1)) (k : W p l e R s m args below meth c H locs cells slots Q (F0 m (pc + 1) ls (.int (nI r) :: rest))) : W p l e R s m args below meth c H locs cells slots Q (F0 m pc ls (.int (nI b) :: .int (nI a) :: rest)) :=
  lv_irem hC.1 hC.2.1 hdg (nI_ne0 hb0 hb) (by rw [pk_rem ha hb0 hb, h]; exact k)
theorem xn_b8 {a : Nat} (h : a < 128) : (nI a).toInt8.toInt32 = nI a := (show ∀ a, a < 128 → (nI a).toInt8.toInt32 = nI a by decide +kernel) a h
theorem xn_s16 {a : Nat} (h : a < 512) : (nI a).toInt16.toInt32 = nI a := (show ∀ a, a < 512 → (nI a).toInt16.toInt32 = nI a by decide +kernel) a h
theorem xn_i2b {own : String} {a : Nat} (hC : cx_C p m c cc s args own) (h : a < 128) (hdg : decode cc pc = .ok (.i2b, 1)) (k : W p l e R s m args below meth c H locs cells slots Q (F0 m (pc + 1) ls (.int (nI a) :: rest))) : W p l e R s m args below meth c H locs cells slots Q (F0 m pc ls (.int (nI a) :: rest)) := lv_i2b hC.1 hC.2.1 hdg (xn_b8 h) k
theorem xn_i2s {own : String} {a : Nat} (hC : cx_C p m c cc s args own) (h : a < 512) (hdg : decode cc pc = .ok (.i2s, 1)) (k : W p l e R s m args below meth c H locs cells slots Q (F0 m (pc + 1) ls (.int (nI a) :: rest))) : W p l e R s m args below meth c H locs cells slots Q (F0 m pc ls (.int (nI a) :: rest)) := lv_i2s hC.1 hC.2.1 hdg (xn_s16 h) k
theorem xn_upN {f : Nat → Nat} {i v : Nat} {y : Int32} (hi : i < 2 ^ 31) (hy : y = nI v) : upd (fun j => nI (f j)) (nI i).toNatClampNeg y = fun j => nI (va_up f i v j) := by
  rw [nI_clamp hi, hy]
  funext j
  show (if j = i then nI v else nI (f j)) = nI (if j = i then v else f j)
  split <;> rfl
theorem xn_upI {f : Nat → Int32} {i : Nat} {v : Int32} (hi : i < 2 ^ 31) : upd f (nI i).toNatClampNeg v = va_up f i v := by
  rw [nI_clamp hi]
  rfl
theorem xn_nb {v : Nat} (h : v < 128) : vp_nar .byte (nI v) = nI v := by rw [vp_nar_byte, xn_b8 h]
theorem xn_ns {v : Nat} (h : v < 512) : vp_nar .short (nI v) = nI v := by rw [vp_nar_short, xn_s16 h]
theorem xn_nz {v : Nat} (h : v < 2) : vp_nar .boolean (nI v) = nI v := (show ∀ v, v < 2 → vp_nar .boolean (nI v) = nI v by decide +kernel) v h

theorem xn_icmp_eq {own : String} {a b : Nat} {off : Int} {tgt : Nat} (hC : cx_C p m c cc s args own) (ha : a < 2 ^ 31) (hb : b < 2 ^ 31) (hdg : decode cc pc = .ok (.if_icmp .eq off, 3)) (ht : (pc : Int) + off = (tgt : Int)) (kt : a = b → W p l e R s m args below meth c H locs cells slots Q (F0 m tgt ls rest)) (kf : ¬ a = b → W p l e R s m args below meth c H locs cells slots Q (F0 m (pc + 3) ls rest)) : W p l e R s m args below meth c H locs cells slots Q (F0 m pc ls (.int (nI b) :: .int (nI a) :: rest)) := lv_icmp_eq hC.1 hC.2.1 hdg ht (fun q => kt ((nI_eq ha hb).mp q)) (fun q => kf (fun z => q ((nI_eq ha hb).mpr z)))
theorem xn_icmp_ne {own : String} {a b : Nat} {off : Int} {tgt : Nat} (hC : cx_C p m c cc s args own) (ha : a < 2 ^ 31) (hb : b < 2 ^ 31) (hdg : decode cc pc = .ok (.if_icmp .ne off, 3)) (ht : (pc : Int) + off = (tgt : Int)) (kt : ¬ a = b → W p l e R s m args below meth c H locs cells slots Q (F0 m tgt ls rest)) (kf : a = b → W p l e R s m args below meth c H locs cells slots Q (F0 m (pc + 3) ls rest)) : W p l e R s m args below meth c H locs cells slots Q (F0 m pc ls (.int (nI b) :: .int (nI a) :: rest)) := lv_icmp_ne hC.1 hC.2.1 hdg ht (fun q => kt (fun z => q ((nI_eq ha hb).mpr z))) (fun q => kf ((nI_eq ha hb).mp q))
theorem xn_icmp_lt {own : String} {a b : Nat} {off : Int} {tgt : Nat} (hC : cx_C p m c cc s args own) (ha : a < 2 ^ 31) (hb : b < 2 ^ 31) (hdg : decode cc pc = .ok (.if_icmp .lt off, 3)) (ht : (pc : Int) + off = (tgt : Int)) (kt : a < b → W p l e R s m args below meth c H locs cells slots Q (F0 m tgt ls rest)) (kf : ¬ a < b → W p l e R s m args below meth c H locs cells slots Q (F0 m (pc + 3) ls rest)) : W p l e R s m args below meth c H locs cells slots Q (F0 m pc ls (.int (nI b) :: .int (nI a) :: rest)) := lv_icmp_lt hC.1 hC.2.1 hdg ht (fun q => kt ((nI_ltI ha hb).mp q)) (fun q => kf (fun z => q ((nI_ltI ha hb).mpr z)))
theorem xn_icmp_ge {own : String} {a b : Nat} {off : Int} {tgt : Nat} (hC : cx_C p m c cc s args own) (ha : a < 2 ^ 31) (hb : b < 2 ^ 31) (hdg : decode cc pc = .ok (.if_icmp .ge off, 3)) (ht : (pc : Int) + off = (tgt : Int)) (kt : b ≤ a → W p l e R s m args below meth c H locs cells slots Q (F0 m tgt ls rest)) (kf : ¬ b ≤ a → W p l e R s m args below meth c H locs cells slots Q (F0 m (pc + 3) ls rest)) : W p l e R s m args below meth c H locs cells slots Q (F0 m pc ls (.int (nI b) :: .int (nI a) :: rest)) := lv_icmp_ge hC.1 hC.2.1 hdg ht (fun q => kt ((nI_leI hb ha).mp q)) (fun q => kf (fun z => q ((nI_leI hb ha).mpr z)))
theorem xn_icmp_gt {own : String} {a b : Nat} {off : Int} {tgt : Nat} (hC : cx_C p m c cc s args own) (ha : a < 2 ^ 31) (hb : b < 2 ^ 31) (hdg : decode cc pc = .ok (.if_icmp .gt off, 3)) (ht : (pc : Int) + off = (tgt : Int)) (kt : b < a → W p l e R s m args below meth c H locs cells slots Q (F0 m tgt ls rest)) (kf : ¬ b < a → W p l e R s m args below meth c H locs cells slots Q (F0 m (pc + 3) ls rest)) : W p l e R s m args below meth c H locs cells slots Q (F0 m pc ls (.int (nI b) :: .int (nI a) :: rest)) := lv_icmp_gt hC.1 hC.2.1 hdg ht (fun q => kt ((nI_ltI hb ha).mp q)) (fun q => kf (fun z => q ((nI_ltI hb ha).mpr z)))
theorem xn_icmp_le {own : String} {a b : Nat} {off : Int} {tgt : Nat} (hC : cx_C p m c cc s args own) (ha : a < 2 ^ 31) (hb : b < 2 ^ 31) (hdg : decode cc pc = .ok (.if_icmp .le off, 3)) (ht : (pc : Int) + off = (tgt : Int)) (kt : a ≤ b → W p l e R s m args below meth c H locs cells slots Q (F0 m tgt ls rest)) (kf : ¬ a ≤ b → W p l e R s m args below meth c H locs cells slots Q (F0 m (pc + 3) ls rest)) : W p l e R s m args below meth c H locs cells slots Q (F0 m pc ls (.int (nI b) :: .int (nI a) :: rest)) := lv_icmp_le hC.1 hC.2.1 hdg ht (fun q => kt ((nI_leI ha hb).mp q)) (fun q => kf (fun z => q ((nI_leI ha hb).mpr z)))
theorem xn_if_eq {own : String} {a : Nat} {off : Int} {tgt : Nat} (hC : cx_C p m c cc s args own) (ha : a < 2 ^ 31) (hdg : decode cc pc = .ok (.ifCond .eq off, 3)) (ht : (pc : Int) + off = (tgt : Int)) (kt : a = 0 → W p l e R s m args below meth c H locs cells slots Q (F0 m tgt ls rest)) (kf : ¬ a = 0 → W p l e R s m args below meth c H locs cells slots Q (F0 m (pc + 3) ls rest)) : W p l e R s m args below meth c H locs cells slots Q (F0 m pc ls (.int (nI a) :: rest)) := by
  have e0 : (0 : Int32) = nI 0 := nI_0.symm
  have h0 : (0 : Nat) < 2 ^ 31 := by omega
  refine lv_if_eq hC.1 hC.2.1 hdg ht (fun q => kt ?_) (fun q => kf ?_)
  · rw [e0, nI_eq ha h0] at q; exact q
  · rw [e0, nI_eq ha h0] at q; exact q
theorem xn_if_ne {own : String} {a : Nat} {off : Int} {tgt : Nat} (hC : cx_C p m c cc s args own) (ha : a < 2 ^ 31) (hdg : decode cc pc = .ok (.ifCond .ne off, 3)) (ht : (pc : Int) + off = (tgt : Int)) (kt : ¬ a = 0 → W p l e R s m args below meth c H locs cells slots Q (F0 m tgt ls rest)) (kf : a = 0 → W p l e R s m args below meth c H locs cells slots Q (F0 m (pc + 3) ls rest)) : W p l e R s m args below meth c H locs cells slots Q (F0 m pc ls (.int (nI a) :: rest)) := by
  have e0 : (0 : Int32) = nI 0 := nI_0.symm
  have h0 : (0 : Nat) < 2 ^ 31 := by omega
  refine lv_if_ne hC.1 hC.2.1 hdg ht (fun q => kt ?_) (fun q => kf ?_)
  · rw [e0, nI_eq ha h0] at q; exact q
  · rw [e0, nI_eq ha h0] at q; exact q
theorem xn_if_le {own : String} {a : Nat} {off : Int} {tgt : Nat} (hC : cx_C p m c cc s args own) (ha : a < 2 ^ 31) (hdg : decode cc pc = .ok (.ifCond .le off, 3)) (ht : (pc : Int) + off = (tgt : Int)) (kt : a ≤ 0 → W p l e R s m args below meth c H locs cells slots Q (F0 m tgt ls rest)) (kf : ¬ a ≤ 0 → W p l e R s m args below meth c H locs cells slots Q (F0 m (pc + 3) ls rest)) : W p l e R s m args below meth c H locs cells slots Q (F0 m pc ls (.int (nI a) :: rest)) := by
  have e0 : (0 : Int32) = nI 0 := nI_0.symm
  have h0 : (0 : Nat) < 2 ^ 31 := by omega
  refine lv_if_le hC.1 hC.2.1 hdg ht (fun q => kt ?_) (fun q => kf ?_)
  · rw [e0, nI_leI ha h0] at q; exact q
  · rw [e0, nI_leI ha h0] at q; exact q
theorem xn_if_gt {own : String} {a : Nat} {off : Int} {tgt : Nat} (hC : cx_C p m c cc s args own) (ha : a < 2 ^ 31) (hdg : decode cc pc = .ok (.ifCond .gt off, 3)) (ht : (pc : Int) + off = (tgt : Int)) (kt : 0 < a → W p l e R s m args below meth c H locs cells slots Q (F0 m tgt ls rest)) (kf : ¬ 0 < a → W p l e R s m args below meth c H locs cells slots Q (F0 m (pc + 3) ls rest)) : W p l e R s m args below meth c H locs cells slots Q (F0 m pc ls (.int (nI a) :: rest)) := by
  have e0 : (0 : Int32) = nI 0 := nI_0.symm
  have h0 : (0 : Nat) < 2 ^ 31 := by omega
  refine lv_if_gt hC.1 hC.2.1 hdg ht (fun q => kt ?_) (fun q => kf ?_)
  · rw [e0, nI_ltI h0 ha] at q; exact q
  · rw [e0, nI_ltI h0 ha] at q; exact q
theorem xn_if_lt {own : String} {a : Nat} {off : Int} {tgt : Nat} (hC : cx_C p m c cc s args own) (ha : a < 2 ^ 31) (hdg : decode cc pc = .ok (.ifCond .lt off, 3)) (ht : (pc : Int) + off = (tgt : Int)) (kf : W p l e R s m args below meth c H locs cells slots Q (F0 m (pc + 3) ls rest)) : W p l e R s m args below meth c H locs cells slots Q (F0 m pc ls (.int (nI a) :: rest)) := lv_if_lt hC.1 hC.2.1 hdg ht (fun q => absurd q (nI_pos ha)) (fun _ => kf)
theorem xn_if_ge {own : String} {a : Nat} {off : Int} {tgt : Nat} (hC : cx_C p m c cc s args own) (ha : a < 2 ^ 31) (hdg : decode cc pc = .ok (.ifCond .ge off, 3)) (ht : (pc : Int) + off = (tgt : Int)) (kt : W p l e R s m args below meth c H locs cells slots Q (F0 m tgt ls rest)) : W p l e R s m args below meth c H locs cells slots Q (F0 m pc ls (.int (nI a) :: rest)) := lv_if_ge hC.1 hC.2.1 hdg ht (fun _ => kt) (fun q => absurd (nI_pos' ha) q)
end
/-! the class SelectorGc: kd da db the definitions; bt built, ba base, tp top; st sort, nu number, sp step, lf left, rt right, bz busy, mv movedTo; ro root, sk stack, hh stackTop -/
abbrev xS : Type := (Nat → Nat) × (Nat → Int32) × (Nat → Int32) × Nat × Nat × Nat × (Nat → Nat) × (Nat → Int32) × (Nat → Int32) × (Nat → Nat) × (Nat → Nat) × (Nat → Nat) × (Nat → Int32) × (Nat → Nat) × (Nat → Nat) × Nat
def xT (ct : Nat → ClassId) : List (ClassId × FieldType) := [(ct 0, .byte), (ct 1, .int), (ct 2, .int), (ct 3, .byte), (ct 4, .int), (ct 5, .int), (ct 6, .short), (ct 7, .short), (ct 8, .boolean), (ct 9, .short), (ct 10, .short), (ct 11, .short)]
def xW (ad : Nat → Nat) (ct : Nat → ClassId) (S : xS) : va_W := match S with
  | (kd, da, db, bt, ba, tp, st, nu, sp, lf, rt, bz, mv, ro, sk, hh) => [(ad 0, .inr (0, [.ref (ad 1), .ref (ad 2), .ref (ad 3), .int (nI bt), .int (nI ba), .int (nI tp), .ref (ad 4), .ref (ad 5), .ref (ad 6), .ref (ad 7), .ref (ad 8), .ref (ad 9), .ref (ad 10), .ref (ad 11), .ref (ad 12), .int (nI hh)])), (ad 1, .inl (ct 0, 6, .inl (fun j => nI (kd j)))), (ad 2, .inl (ct 1, 6, .inl da)), (ad 3, .inl (ct 2, 6, .inl db)), (ad 4, .inl (ct 3, 512, .inl (fun j => nI (st j)))), (ad 5, .inl (ct 4, 512, .inl nu)), (ad 6, .inl (ct 5, 512, .inl sp)), (ad 7, .inl (ct 6, 512, .inl (fun j => nI (lf j)))), (ad 8, .inl (ct 7, 512, .inl (fun j => nI (rt j)))), (ad 9, .inl (ct 8, 512, .inl (fun j => nI (bz j)))), (ad 10, .inl (ct 9, 512, .inl mv)), (ad 11, .inl (ct 10, 6, .inl (fun j => nI (ro j)))), (ad 12, .inl (ct 11, 16, .inl (fun j => nI (sk j))))]
section
variable {p : Program} {l : Launch} {e : Env} {R : Room} {s : State} {m : MethodId} {args : Array Value} {below : List Frame} {meth : Method} {c : Code} {H : Heap} {locs : List Loc} {cells slots : Nat} {Q : State → Prop}
variable {cc : ByteArray} {pc : Nat} {ls : Array Slot} {rest : List Value} {A : Nat → Prop} {H0 : Heap} {D : va_G} {ad : Nat → Nat} {ct : Nat → ClassId}

variable {kd : (Nat → Nat)} {da : (Nat → Int32)} {db : (Nat → Int32)} {bt : Nat} {ba : Nat} {tp : Nat} {st : (Nat → Nat)} {nu : (Nat → Int32)} {sp : (Nat → Int32)} {lf : (Nat → Nat)} {rt : (Nat → Nat)} {bz : (Nat → Nat)} {mv : (Nat → Int32)} {ro : (Nat → Nat)} {sk : (Nat → Nat)} {hh : Nat}
theorem x_g_definedAs (hC : cx_C p m c cc s args RX0) (hw : cx_W D (xT ct) A s H0 H locs (xW ad ct (kd, da, db, bt, ba, tp, st, nu, sp, lf, rt, bz, mv, ro, sk, hh))) (hdg : decode cc pc = .ok (.getfield 7, 3)) (kk : W p l e R s m args below meth c H locs cells slots Q (F0 m (pc + 3) ls (.ref (ad 1) :: rest))) : W p l e R s m args below meth c H locs cells slots Q (F0 m pc ls (.ref (ad 0) :: rest)) := va_get (D := D) (ci := 0) (v := .ref (ad 1)) (C := RX0) (T := TX0) (N := 16) hC.1 hC.2.1 hC.2.2.2 in_X0 hC.2.2.1 hw.1 hw.2.1 0 rfl rfl 0 (by decide) (hC.2.2.2 _ q39) (fun _ h9 => h9) rfl hdg kk
theorem x_g_definedA (hC : cx_C p m c cc s args RX0) (hw : cx_W D (xT ct) A s H0 H locs (xW ad ct (kd, da, db, bt, ba, tp, st, nu, sp, lf, rt, bz, mv, ro, sk, hh))) (hdg : decode cc pc = .ok (.getfield 13, 3)) (kk : W p l e R s m args below meth c H locs cells slots Q (F0 m (pc + 3) ls (.ref (ad 2) :: rest))) : W p l e R s m args below meth c H locs cells slots Q (F0 m pc ls (.ref (ad 0) :: rest)) := va_get (D := D) (ci := 0) (v := .ref (ad 2)) (C := RX0) (T := TX0) (N := 16) hC.1 hC.2.1 hC.2.2.2 in_X0 hC.2.2.1 hw.1 hw.2.1 0 rfl rfl 1 (by decide) (hC.2.2.2 _ q40) (fun _ h9 => h9) rfl hdg kk
theorem x_g_definedB (hC : cx_C p m c cc s args RX0) (hw : cx_W D (xT ct) A s H0 H locs (xW ad ct (kd, da, db, bt, ba, tp, st, nu, sp, lf, rt, bz, mv, ro, sk, hh))) (hdg : decode cc pc = .ok (.getfield 17, 3)) (kk : W p l e R s m args below meth c H locs cells slots Q (F0 m (pc + 3) ls (.ref (ad 3) :: rest))) : W p l e R s m args below meth c H locs cells slots Q (F0 m pc ls (.ref (ad 0) :: rest)) := va_get (D := D) (ci := 0) (v := .ref (ad 3)) (C := RX0) (T := TX0) (N := 16) hC.1 hC.2.1 hC.2.2.2 in_X0 hC.2.2.1 hw.1 hw.2.1 0 rfl rfl 2 (by decide) (hC.2.2.2 _ q41) (fun _ h9 => h9) rfl hdg kk
theorem x_g_built (hC : cx_C p m c cc s args RX0) (hw : cx_W D (xT ct) A s H0 H locs (xW ad ct (kd, da, db, bt, ba, tp, st, nu, sp, lf, rt, bz, mv, ro, sk, hh))) (hdg : decode cc pc = .ok (.getfield 59, 3)) (kk : W p l e R s m args below meth c H locs cells slots Q (F0 m (pc + 3) ls (.int (nI bt) :: rest))) : W p l e R s m args below meth c H locs cells slots Q (F0 m pc ls (.ref (ad 0) :: rest)) := va_get (D := D) (ci := 0) (v := .int (nI bt)) (C := RX0) (T := TX0) (N := 16) hC.1 hC.2.1 hC.2.2.2 in_X0 hC.2.2.1 hw.1 hw.2.1 0 rfl rfl 3 (by decide) (hC.2.2.2 _ q42) (fun _ h9 => h9) rfl hdg kk
theorem x_p_built {v' : Nat} (hC : cx_C p m c cc s args RX0) (hw : cx_W D (xT ct) A s H0 H locs (xW ad ct (kd, da, db, bt, ba, tp, st, nu, sp, lf, rt, bz, mv, ro, sk, hh))) (hv : v' < 2) (hdg : decode cc pc = .ok (.putfield 59, 3)) (kk : ∀ (H1 : Heap) (locs1 : List Loc), cx_W D (xT ct) A s H0 H1 locs1 (xW ad ct (kd, da, db, v', ba, tp, st, nu, sp, lf, rt, bz, mv, ro, sk, hh)) → W p l e R s m args below meth c H1 locs1 cells slots Q (F0 m (pc + 3) ls rest)) : W p l e R s m args below meth c H locs cells slots Q (F0 m pc ls (.int (nI v') :: .ref (ad 0) :: rest)) := va_put (D := D) (ci := 0) (v := .int (nI v')) (ty := .boolean) (C := RX0) (T := TX0) (N := 16) hC.1 hC.2.1 hC.2.2.2 in_X0 tyX0 tyX0_ok nmX0 hC.2.2.1 hw.1 hw.2.1 hw.2.2.1 hw.2.2.2.1 0 rfl rfl 3 (by decide) (hC.2.2.2 _ q42) (fun _ h9 => h9) rfl (by decide +kernel) ((show ∀ v, v < 2 → narrow .boolean (.int (nI v)) = .int (nI v) by decide +kernel) v' hv) ((show ∀ v, v < 2 → fits .boolean (.int (nI v)) = true by decide +kernel) v' hv) (Nat.le_of_ble_eq_true rfl) hdg (fun H1 locs1 hP hD hS => kk H1 locs1 ⟨hw.1, hP, hD, hS, hw.2.2.2.2⟩)
theorem x_g_base (hC : cx_C p m c cc s args RX0) (hw : cx_W D (xT ct) A s H0 H locs (xW ad ct (kd, da, db, bt, ba, tp, st, nu, sp, lf, rt, bz, mv, ro, sk, hh))) (hdg : decode cc pc = .ok (.getfield 67, 3)) (kk : W p l e R s m args below meth c H locs cells slots Q (F0 m (pc + 3) ls (.int (nI ba) :: rest))) : W p l e R s m args below meth c H locs cells slots Q (F0 m pc ls (.ref (ad 0) :: rest)) := va_get (D := D) (ci := 0) (v := .int (nI ba)) (C := RX0) (T := TX0) (N := 16) hC.1 hC.2.1 hC.2.2.2 in_X0 hC.2.2.1 hw.1 hw.2.1 0 rfl rfl 4 (by decide) (hC.2.2.2 _ q43) (fun _ h9 => h9) rfl hdg kk
theorem x_p_base {v' : Nat} (hC : cx_C p m c cc s args RX0) (hw : cx_W D (xT ct) A s H0 H locs (xW ad ct (kd, da, db, bt, ba, tp, st, nu, sp, lf, rt, bz, mv, ro, sk, hh))) (hdg : decode cc pc = .ok (.putfield 67, 3)) (kk : ∀ (H1 : Heap) (locs1 : List Loc), cx_W D (xT ct) A s H0 H1 locs1 (xW ad ct (kd, da, db, bt, v', tp, st, nu, sp, lf, rt, bz, mv, ro, sk, hh)) → W p l e R s m args below meth c H1 locs1 cells slots Q (F0 m (pc + 3) ls rest)) : W p l e R s m args below meth c H locs cells slots Q (F0 m pc ls (.int (nI v') :: .ref (ad 0) :: rest)) := va_put (D := D) (ci := 0) (v := .int (nI v')) (ty := .int) (C := RX0) (T := TX0) (N := 16) hC.1 hC.2.1 hC.2.2.2 in_X0 tyX0 tyX0_ok nmX0 hC.2.2.1 hw.1 hw.2.1 hw.2.2.1 hw.2.2.2.1 0 rfl rfl 4 (by decide) (hC.2.2.2 _ q43) (fun _ h9 => h9) rfl (by decide +kernel) rfl rfl (Nat.le_of_ble_eq_true rfl) hdg (fun H1 locs1 hP hD hS => kk H1 locs1 ⟨hw.1, hP, hD, hS, hw.2.2.2.2⟩)
theorem x_g_top (hC : cx_C p m c cc s args RX0) (hw : cx_W D (xT ct) A s H0 H locs (xW ad ct (kd, da, db, bt, ba, tp, st, nu, sp, lf, rt, bz, mv, ro, sk, hh))) (hdg : decode cc pc = .ok (.getfield 71, 3)) (kk : W p l e R s m args below meth c H locs cells slots Q (F0 m (pc + 3) ls (.int (nI tp) :: rest))) : W p l e R s m args below meth c H locs cells slots Q (F0 m pc ls (.ref (ad 0) :: rest)) := va_get (D := D) (ci := 0) (v := .int (nI tp)) (C := RX0) (T := TX0) (N := 16) hC.1 hC.2.1 hC.2.2.2 in_X0 hC.2.2.1 hw.1 hw.2.1 0 rfl rfl 5 (by decide) (hC.2.2.2 _ q44) (fun _ h9 => h9) rfl hdg kk
theorem x_p_top {v' : Nat} (hC : cx_C p m c cc s args RX0) (hw : cx_W D (xT ct) A s H0 H locs (xW ad ct (kd, da, db, bt, ba, tp, st, nu, sp, lf, rt, bz, mv, ro, sk, hh))) (hdg : decode cc pc = .ok (.putfield 71, 3)) (kk : ∀ (H1 : Heap) (locs1 : List Loc), cx_W D (xT ct) A s H0 H1 locs1 (xW ad ct (kd, da, db, bt, ba, v', st, nu, sp, lf, rt, bz, mv, ro, sk, hh)) → W p l e R s m args below meth c H1 locs1 cells slots Q (F0 m (pc + 3) ls rest)) : W p l e R s m args below meth c H locs cells slots Q (F0 m pc ls (.int (nI v') :: .ref (ad 0) :: rest)) := va_put (D := D) (ci := 0) (v := .int (nI v')) (ty := .int) (C := RX0) (T := TX0) (N := 16) hC.1 hC.2.1 hC.2.2.2 in_X0 tyX0 tyX0_ok nmX0 hC.2.2.1 hw.1 hw.2.1 hw.2.2.1 hw.2.2.2.1 0 rfl rfl 5 (by decide) (hC.2.2.2 _ q44) (fun _ h9 => h9) rfl (by decide +kernel) rfl rfl (Nat.le_of_ble_eq_true rfl) hdg (fun H1 locs1 hP hD hS => kk H1 locs1 ⟨hw.1, hP, hD, hS, hw.2.2.2.2⟩)
theorem x_g_sort (hC : cx_C p m c cc s args RX0) (hw : cx_W D (xT ct) A s H0 H locs (xW ad ct (kd, da, db, bt, ba, tp, st, nu, sp, lf, rt, bz, mv, ro, sk, hh))) (hdg : decode cc pc = .ok (.getfield 20, 3)) (kk : W p l e R s m args below meth c H locs cells slots Q (F0 m (pc + 3) ls (.ref (ad 4) :: rest))) : W p l e R s m args below meth c H locs cells slots Q (F0 m pc ls (.ref (ad 0) :: rest)) := va_get (D := D) (ci := 0) (v := .ref (ad 4)) (C := RX0) (T := TX0) (N := 16) hC.1 hC.2.1 hC.2.2.2 in_X0 hC.2.2.1 hw.1 hw.2.1 0 rfl rfl 6 (by decide) (hC.2.2.2 _ q45) (fun _ h9 => h9) rfl hdg kk
theorem x_g_number (hC : cx_C p m c cc s args RX0) (hw : cx_W D (xT ct) A s H0 H locs (xW ad ct (kd, da, db, bt, ba, tp, st, nu, sp, lf, rt, bz, mv, ro, sk, hh))) (hdg : decode cc pc = .ok (.getfield 23, 3)) (kk : W p l e R s m args below meth c H locs cells slots Q (F0 m (pc + 3) ls (.ref (ad 5) :: rest))) : W p l e R s m args below meth c H locs cells slots Q (F0 m pc ls (.ref (ad 0) :: rest)) := va_get (D := D) (ci := 0) (v := .ref (ad 5)) (C := RX0) (T := TX0) (N := 16) hC.1 hC.2.1 hC.2.2.2 in_X0 hC.2.2.1 hw.1 hw.2.1 0 rfl rfl 7 (by decide) (hC.2.2.2 _ q46) (fun _ h9 => h9) rfl hdg kk
theorem x_g_step (hC : cx_C p m c cc s args RX0) (hw : cx_W D (xT ct) A s H0 H locs (xW ad ct (kd, da, db, bt, ba, tp, st, nu, sp, lf, rt, bz, mv, ro, sk, hh))) (hdg : decode cc pc = .ok (.getfield 26, 3)) (kk : W p l e R s m args below meth c H locs cells slots Q (F0 m (pc + 3) ls (.ref (ad 6) :: rest))) : W p l e R s m args below meth c H locs cells slots Q (F0 m pc ls (.ref (ad 0) :: rest)) := va_get (D := D) (ci := 0) (v := .ref (ad 6)) (C := RX0) (T := TX0) (N := 16) hC.1 hC.2.1 hC.2.2.2 in_X0 hC.2.2.1 hw.1 hw.2.1 0 rfl rfl 8 (by decide) (hC.2.2.2 _ q47) (fun _ h9 => h9) rfl hdg kk
theorem x_g_left (hC : cx_C p m c cc s args RX0) (hw : cx_W D (xT ct) A s H0 H locs (xW ad ct (kd, da, db, bt, ba, tp, st, nu, sp, lf, rt, bz, mv, ro, sk, hh))) (hdg : decode cc pc = .ok (.getfield 29, 3)) (kk : W p l e R s m args below meth c H locs cells slots Q (F0 m (pc + 3) ls (.ref (ad 7) :: rest))) : W p l e R s m args below meth c H locs cells slots Q (F0 m pc ls (.ref (ad 0) :: rest)) := va_get (D := D) (ci := 0) (v := .ref (ad 7)) (C := RX0) (T := TX0) (N := 16) hC.1 hC.2.1 hC.2.2.2 in_X0 hC.2.2.1 hw.1 hw.2.1 0 rfl rfl 9 (by decide) (hC.2.2.2 _ q48) (fun _ h9 => h9) rfl hdg kk
theorem x_g_right (hC : cx_C p m c cc s args RX0) (hw : cx_W D (xT ct) A s H0 H locs (xW ad ct (kd, da, db, bt, ba, tp, st, nu, sp, lf, rt, bz, mv, ro, sk, hh))) (hdg : decode cc pc = .ok (.getfield 33, 3)) (kk : W p l e R s m args below meth c H locs cells slots Q (F0 m (pc + 3) ls (.ref (ad 8) :: rest))) : W p l e R s m args below meth c H locs cells slots Q (F0 m pc ls (.ref (ad 0) :: rest)) := va_get (D := D) (ci := 0) (v := .ref (ad 8)) (C := RX0) (T := TX0) (N := 16) hC.1 hC.2.1 hC.2.2.2 in_X0 hC.2.2.1 hw.1 hw.2.1 0 rfl rfl 10 (by decide) (hC.2.2.2 _ q49) (fun _ h9 => h9) rfl hdg kk
theorem x_g_busy (hC : cx_C p m c cc s args RX0) (hw : cx_W D (xT ct) A s H0 H locs (xW ad ct (kd, da, db, bt, ba, tp, st, nu, sp, lf, rt, bz, mv, ro, sk, hh))) (hdg : decode cc pc = .ok (.getfield 36, 3)) (kk : W p l e R s m args below meth c H locs cells slots Q (F0 m (pc + 3) ls (.ref (ad 9) :: rest))) : W p l e R s m args below meth c H locs cells slots Q (F0 m pc ls (.ref (ad 0) :: rest)) := va_get (D := D) (ci := 0) (v := .ref (ad 9)) (C := RX0) (T := TX0) (N := 16) hC.1 hC.2.1 hC.2.2.2 in_X0 hC.2.2.1 hw.1 hw.2.1 0 rfl rfl 11 (by decide) (hC.2.2.2 _ q50) (fun _ h9 => h9) rfl hdg kk
theorem x_g_movedTo (hC : cx_C p m c cc s args RX0) (hw : cx_W D (xT ct) A s H0 H locs (xW ad ct (kd, da, db, bt, ba, tp, st, nu, sp, lf, rt, bz, mv, ro, sk, hh))) (hdg : decode cc pc = .ok (.getfield 40, 3)) (kk : W p l e R s m args below meth c H locs cells slots Q (F0 m (pc + 3) ls (.ref (ad 10) :: rest))) : W p l e R s m args below meth c H locs cells slots Q (F0 m pc ls (.ref (ad 0) :: rest)) := va_get (D := D) (ci := 0) (v := .ref (ad 10)) (C := RX0) (T := TX0) (N := 16) hC.1 hC.2.1 hC.2.2.2 in_X0 hC.2.2.1 hw.1 hw.2.1 0 rfl rfl 12 (by decide) (hC.2.2.2 _ q51) (fun _ h9 => h9) rfl hdg kk
theorem x_g_root (hC : cx_C p m c cc s args RX0) (hw : cx_W D (xT ct) A s H0 H locs (xW ad ct (kd, da, db, bt, ba, tp, st, nu, sp, lf, rt, bz, mv, ro, sk, hh))) (hdg : decode cc pc = .ok (.getfield 43, 3)) (kk : W p l e R s m args below meth c H locs cells slots Q (F0 m (pc + 3) ls (.ref (ad 11) :: rest))) : W p l e R s m args below meth c H locs cells slots Q (F0 m pc ls (.ref (ad 0) :: rest)) := va_get (D := D) (ci := 0) (v := .ref (ad 11)) (C := RX0) (T := TX0) (N := 16) hC.1 hC.2.1 hC.2.2.2 in_X0 hC.2.2.1 hw.1 hw.2.1 0 rfl rfl 13 (by decide) (hC.2.2.2 _ q52) (fun _ h9 => h9) rfl hdg kk
theorem x_g_stack (hC : cx_C p m c cc s args RX0) (hw : cx_W D (xT ct) A s H0 H locs (xW ad ct (kd, da, db, bt, ba, tp, st, nu, sp, lf, rt, bz, mv, ro, sk, hh))) (hdg : decode cc pc = .ok (.getfield 46, 3)) (kk : W p l e R s m args below meth c H locs cells slots Q (F0 m (pc + 3) ls (.ref (ad 12) :: rest))) : W p l e R s m args below meth c H locs cells slots Q (F0 m pc ls (.ref (ad 0) :: rest)) := va_get (D := D) (ci := 0) (v := .ref (ad 12)) (C := RX0) (T := TX0) (N := 16) hC.1 hC.2.1 hC.2.2.2 in_X0 hC.2.2.1 hw.1 hw.2.1 0 rfl rfl 14 (by decide) (hC.2.2.2 _ q53) (fun _ h9 => h9) rfl hdg kk
theorem x_g_stackTop (hC : cx_C p m c cc s args RX0) (hw : cx_W D (xT ct) A s H0 H locs (xW ad ct (kd, da, db, bt, ba, tp, st, nu, sp, lf, rt, bz, mv, ro, sk, hh))) (hdg : decode cc pc = .ok (.getfield 85, 3)) (kk : W p l e R s m args below meth c H locs cells slots Q (F0 m (pc + 3) ls (.int (nI hh) :: rest))) : W p l e R s m args below meth c H locs cells slots Q (F0 m pc ls (.ref (ad 0) :: rest)) := va_get (D := D) (ci := 0) (v := .int (nI hh)) (C := RX0) (T := TX0) (N := 16) hC.1 hC.2.1 hC.2.2.2 in_X0 hC.2.2.1 hw.1 hw.2.1 0 rfl rfl 15 (by decide) (hC.2.2.2 _ q54) (fun _ h9 => h9) rfl hdg kk
theorem x_p_stackTop {v' : Nat} (hC : cx_C p m c cc s args RX0) (hw : cx_W D (xT ct) A s H0 H locs (xW ad ct (kd, da, db, bt, ba, tp, st, nu, sp, lf, rt, bz, mv, ro, sk, hh))) (hdg : decode cc pc = .ok (.putfield 85, 3)) (kk : ∀ (H1 : Heap) (locs1 : List Loc), cx_W D (xT ct) A s H0 H1 locs1 (xW ad ct (kd, da, db, bt, ba, tp, st, nu, sp, lf, rt, bz, mv, ro, sk, v')) → W p l e R s m args below meth c H1 locs1 cells slots Q (F0 m (pc + 3) ls rest)) : W p l e R s m args below meth c H locs cells slots Q (F0 m pc ls (.int (nI v') :: .ref (ad 0) :: rest)) := va_put (D := D) (ci := 0) (v := .int (nI v')) (ty := .int) (C := RX0) (T := TX0) (N := 16) hC.1 hC.2.1 hC.2.2.2 in_X0 tyX0 tyX0_ok nmX0 hC.2.2.1 hw.1 hw.2.1 hw.2.2.1 hw.2.2.2.1 0 rfl rfl 15 (by decide) (hC.2.2.2 _ q54) (fun _ h9 => h9) rfl (by decide +kernel) rfl rfl (Nat.le_of_ble_eq_true rfl) hdg (fun H1 locs1 hP hD hS => kk H1 locs1 ⟨hw.1, hP, hD, hS, hw.2.2.2.2⟩)
theorem x_ld_kd {i : Nat} (hC : cx_C p m c cc s args RX0) (hw : cx_W D (xT ct) A s H0 H locs (xW ad ct (kd, da, db, bt, ba, tp, st, nu, sp, lf, rt, bz, mv, ro, sk, hh))) (hi : i < 6) (hdg : decode cc pc = .ok (.baload, 1)) (kk : W p l e R s m args below meth c H locs cells slots Q (F0 m (pc + 1) ls (.int (nI (kd i)) :: rest))) : W p l e R s m args below meth c H locs cells slots Q (F0 m pc ls (.int (nI i) :: .ref (ad 1) :: rest)) := by
  have h31 : i < 2 ^ 31 := by omega
  refine va_bald (D := D) hC.1 hC.2.1 hw.1 hw.2.1 1 0 rfl rfl (vp_in_nI hi (by omega)) hdg ?_
  rw [nI_clamp h31]
  exact kk
theorem x_st_kd {i v : Nat} (hC : cx_C p m c cc s args RX0) (hw : cx_W D (xT ct) A s H0 H locs (xW ad ct (kd, da, db, bt, ba, tp, st, nu, sp, lf, rt, bz, mv, ro, sk, hh))) (hi : i < 6) (hv : v < 128) (hdg : decode cc pc = .ok (.bastore, 1)) (kk : ∀ (H1 : Heap) (locs1 : List Loc), cx_W D (xT ct) A s H0 H1 locs1 (xW ad ct (va_up kd i v, da, db, bt, ba, tp, st, nu, sp, lf, rt, bz, mv, ro, sk, hh)) → W p l e R s m args below meth c H1 locs1 cells slots Q (F0 m (pc + 1) ls rest)) : W p l e R s m args below meth c H locs cells slots Q (F0 m pc ls (.int (nI v) :: .int (nI i) :: .ref (ad 1) :: rest)) := by
  have h31 : i < 2 ^ 31 := by omega
  refine va_bast (D := D) hC.1 hC.2.1 hw.1 hw.2.1 hw.2.2.1 hw.2.2.2.1 1 0 rfl rfl (vp_in_nI hi (by omega)) hdg (fun H1 locs1 hP hD hS => ?_)
  rw [xn_upN h31 (xn_nb hv)] at hP hD
  exact kk H1 locs1 ⟨hw.1, hP, hD, hS, hw.2.2.2.2⟩
theorem x_ld_da {i : Nat} (hC : cx_C p m c cc s args RX0) (hw : cx_W D (xT ct) A s H0 H locs (xW ad ct (kd, da, db, bt, ba, tp, st, nu, sp, lf, rt, bz, mv, ro, sk, hh))) (hi : i < 6) (hdg : decode cc pc = .ok (.iaload, 1)) (kk : W p l e R s m args below meth c H locs cells slots Q (F0 m (pc + 1) ls (.int (da i) :: rest))) : W p l e R s m args below meth c H locs cells slots Q (F0 m pc ls (.int (nI i) :: .ref (ad 2) :: rest)) := by
  have h31 : i < 2 ^ 31 := by omega
  refine va_iald (D := D) hC.1 hC.2.1 hw.1 hw.2.1 2 1 rfl rfl (vp_in_nI hi (by omega)) hdg ?_
  rw [nI_clamp h31]
  exact kk
theorem x_st_da {i : Nat} {v : Int32} (hC : cx_C p m c cc s args RX0) (hw : cx_W D (xT ct) A s H0 H locs (xW ad ct (kd, da, db, bt, ba, tp, st, nu, sp, lf, rt, bz, mv, ro, sk, hh))) (hi : i < 6) (hdg : decode cc pc = .ok (.iastore, 1)) (kk : ∀ (H1 : Heap) (locs1 : List Loc), cx_W D (xT ct) A s H0 H1 locs1 (xW ad ct (kd, va_up da i v, db, bt, ba, tp, st, nu, sp, lf, rt, bz, mv, ro, sk, hh)) → W p l e R s m args below meth c H1 locs1 cells slots Q (F0 m (pc + 1) ls rest)) : W p l e R s m args below meth c H locs cells slots Q (F0 m pc ls (.int v :: .int (nI i) :: .ref (ad 2) :: rest)) := by
  have h31 : i < 2 ^ 31 := by omega
  refine va_iast (D := D) hC.1 hC.2.1 hw.1 hw.2.1 hw.2.2.1 hw.2.2.2.1 2 1 rfl rfl (vp_in_nI hi (by omega)) hdg (fun H1 locs1 hP hD hS => ?_)
  rw [xn_upI h31] at hP hD
  exact kk H1 locs1 ⟨hw.1, hP, hD, hS, hw.2.2.2.2⟩
theorem x_ld_db {i : Nat} (hC : cx_C p m c cc s args RX0) (hw : cx_W D (xT ct) A s H0 H locs (xW ad ct (kd, da, db, bt, ba, tp, st, nu, sp, lf, rt, bz, mv, ro, sk, hh))) (hi : i < 6) (hdg : decode cc pc = .ok (.iaload, 1)) (kk : W p l e R s m args below meth c H locs cells slots Q (F0 m (pc + 1) ls (.int (db i) :: rest))) : W p l e R s m args below meth c H locs cells slots Q (F0 m pc ls (.int (nI i) :: .ref (ad 3) :: rest)) := by
  have h31 : i < 2 ^ 31 := by omega
  refine va_iald (D := D) hC.1 hC.2.1 hw.1 hw.2.1 3 2 rfl rfl (vp_in_nI hi (by omega)) hdg ?_
  rw [nI_clamp h31]
  exact kk
theorem x_st_db {i : Nat} {v : Int32} (hC : cx_C p m c cc s args RX0) (hw : cx_W D (xT ct) A s H0 H locs (xW ad ct (kd, da, db, bt, ba, tp, st, nu, sp, lf, rt, bz, mv, ro, sk, hh))) (hi : i < 6) (hdg : decode cc pc = .ok (.iastore, 1)) (kk : ∀ (H1 : Heap) (locs1 : List Loc), cx_W D (xT ct) A s H0 H1 locs1 (xW ad ct (kd, da, va_up db i v, bt, ba, tp, st, nu, sp, lf, rt, bz, mv, ro, sk, hh)) → W p l e R s m args below meth c H1 locs1 cells slots Q (F0 m (pc + 1) ls rest)) : W p l e R s m args below meth c H locs cells slots Q (F0 m pc ls (.int v :: .int (nI i) :: .ref (ad 3) :: rest)) := by
  have h31 : i < 2 ^ 31 := by omega
  refine va_iast (D := D) hC.1 hC.2.1 hw.1 hw.2.1 hw.2.2.1 hw.2.2.2.1 3 2 rfl rfl (vp_in_nI hi (by omega)) hdg (fun H1 locs1 hP hD hS => ?_)
  rw [xn_upI h31] at hP hD
  exact kk H1 locs1 ⟨hw.1, hP, hD, hS, hw.2.2.2.2⟩
theorem x_ld_st {i : Nat} (hC : cx_C p m c cc s args RX0) (hw : cx_W D (xT ct) A s H0 H locs (xW ad ct (kd, da, db, bt, ba, tp, st, nu, sp, lf, rt, bz, mv, ro, sk, hh))) (hi : i < 512) (hdg : decode cc pc = .ok (.baload, 1)) (kk : W p l e R s m args below meth c H locs cells slots Q (F0 m (pc + 1) ls (.int (nI (st i)) :: rest))) : W p l e R s m args below meth c H locs cells slots Q (F0 m pc ls (.int (nI i) :: .ref (ad 4) :: rest)) := by
  have h31 : i < 2 ^ 31 := by omega
  refine va_bald (D := D) hC.1 hC.2.1 hw.1 hw.2.1 4 3 rfl rfl (vp_in_nI hi (by omega)) hdg ?_
  rw [nI_clamp h31]
  exact kk
theorem x_st_st {i v : Nat} (hC : cx_C p m c cc s args RX0) (hw : cx_W D (xT ct) A s H0 H locs (xW ad ct (kd, da, db, bt, ba, tp, st, nu, sp, lf, rt, bz, mv, ro, sk, hh))) (hi : i < 512) (hv : v < 128) (hdg : decode cc pc = .ok (.bastore, 1)) (kk : ∀ (H1 : Heap) (locs1 : List Loc), cx_W D (xT ct) A s H0 H1 locs1 (xW ad ct (kd, da, db, bt, ba, tp, va_up st i v, nu, sp, lf, rt, bz, mv, ro, sk, hh)) → W p l e R s m args below meth c H1 locs1 cells slots Q (F0 m (pc + 1) ls rest)) : W p l e R s m args below meth c H locs cells slots Q (F0 m pc ls (.int (nI v) :: .int (nI i) :: .ref (ad 4) :: rest)) := by
  have h31 : i < 2 ^ 31 := by omega
  refine va_bast (D := D) hC.1 hC.2.1 hw.1 hw.2.1 hw.2.2.1 hw.2.2.2.1 4 3 rfl rfl (vp_in_nI hi (by omega)) hdg (fun H1 locs1 hP hD hS => ?_)
  rw [xn_upN h31 (xn_nb hv)] at hP hD
  exact kk H1 locs1 ⟨hw.1, hP, hD, hS, hw.2.2.2.2⟩
theorem x_ld_nu {i : Nat} (hC : cx_C p m c cc s args RX0) (hw : cx_W D (xT ct) A s H0 H locs (xW ad ct (kd, da, db, bt, ba, tp, st, nu, sp, lf, rt, bz, mv, ro, sk, hh))) (hi : i < 512) (hdg : decode cc pc = .ok (.iaload, 1)) (kk : W p l e R s m args below meth c H locs cells slots Q (F0 m (pc + 1) ls (.int (nu i) :: rest))) : W p l e R s m args below meth c H locs cells slots Q (F0 m pc ls (.int (nI i) :: .ref (ad 5) :: rest)) := by
  have h31 : i < 2 ^ 31 := by omega
  refine va_iald (D := D) hC.1 hC.2.1 hw.1 hw.2.1 5 4 rfl rfl (vp_in_nI hi (by omega)) hdg ?_
  rw [nI_clamp h31]
  exact kk
theorem x_st_nu {i : Nat} {v : Int32} (hC : cx_C p m c cc s args RX0) (hw : cx_W D (xT ct) A s H0 H locs (xW ad ct (kd, da, db, bt, ba, tp, st, nu, sp, lf, rt, bz, mv, ro, sk, hh))) (hi : i < 512) (hdg : decode cc pc = .ok (.iastore, 1)) (kk : ∀ (H1 : Heap) (locs1 : List Loc), cx_W D (xT ct) A s H0 H1 locs1 (xW ad ct (kd, da, db, bt, ba, tp, st, va_up nu i v, sp, lf, rt, bz, mv, ro, sk, hh)) → W p l e R s m args below meth c H1 locs1 cells slots Q (F0 m (pc + 1) ls rest)) : W p l e R s m args below meth c H locs cells slots Q (F0 m pc ls (.int v :: .int (nI i) :: .ref (ad 5) :: rest)) := by
  have h31 : i < 2 ^ 31 := by omega
  refine va_iast (D := D) hC.1 hC.2.1 hw.1 hw.2.1 hw.2.2.1 hw.2.2.2.1 5 4 rfl rfl (vp_in_nI hi (by omega)) hdg (fun H1 locs1 hP hD hS => ?_)
  rw [xn_upI h31] at hP hD
  exact kk H1 locs1 ⟨hw.1, hP, hD, hS, hw.2.2.2.2⟩
theorem x_ld_sp {i : Nat} (hC : cx_C p m c cc s args RX0) (hw : cx_W D (xT ct) A s H0 H locs (xW ad ct (kd, da, db, bt, ba, tp, st, nu, sp, lf, rt, bz, mv, ro, sk, hh))) (hi : i < 512) (hdg : decode cc pc = .ok (.iaload, 1)) (kk : W p l e R s m args below meth c H locs cells slots Q (F0 m (pc + 1) ls (.int (sp i) :: rest))) : W p l e R s m args below meth c H locs cells slots Q (F0 m pc ls (.int (nI i) :: .ref (ad 6) :: rest)) := by
  have h31 : i < 2 ^ 31 := by omega
  refine va_iald (D := D) hC.1 hC.2.1 hw.1 hw.2.1 6 5 rfl rfl (vp_in_nI hi (by omega)) hdg ?_
  rw [nI_clamp h31]
  exact kk
theorem x_st_sp {i : Nat} {v : Int32} (hC : cx_C p m c cc s args RX0) (hw : cx_W D (xT ct) A s H0 H locs (xW ad ct (kd, da, db, bt, ba, tp, st, nu, sp, lf, rt, bz, mv, ro, sk, hh))) (hi : i < 512) (hdg : decode cc pc = .ok (.iastore, 1)) (kk : ∀ (H1 : Heap) (locs1 : List Loc), cx_W D (xT ct) A s H0 H1 locs1 (xW ad ct (kd, da, db, bt, ba, tp, st, nu, va_up sp i v, lf, rt, bz, mv, ro, sk, hh)) → W p l e R s m args below meth c H1 locs1 cells slots Q (F0 m (pc + 1) ls rest)) : W p l e R s m args below meth c H locs cells slots Q (F0 m pc ls (.int v :: .int (nI i) :: .ref (ad 6) :: rest)) := by
  have h31 : i < 2 ^ 31 := by omega
  refine va_iast (D := D) hC.1 hC.2.1 hw.1 hw.2.1 hw.2.2.1 hw.2.2.2.1 6 5 rfl rfl (vp_in_nI hi (by omega)) hdg (fun H1 locs1 hP hD hS => ?_)
  rw [xn_upI h31] at hP hD
  exact kk H1 locs1 ⟨hw.1, hP, hD, hS, hw.2.2.2.2⟩
theorem x_ld_lf {i : Nat} (hC : cx_C p m c cc s args RX0) (hw : cx_W D (xT ct) A s H0 H locs (xW ad ct (kd, da, db, bt, ba, tp, st, nu, sp, lf, rt, bz, mv, ro, sk, hh))) (hi : i < 512) (hdg : decode cc pc = .ok (.saload, 1)) (kk : W p l e R s m args below meth c H locs cells slots Q (F0 m (pc + 1) ls (.int (nI (lf i)) :: rest))) : W p l e R s m args below meth c H locs cells slots Q (F0 m pc ls (.int (nI i) :: .ref (ad 7) :: rest)) := by
  have h31 : i < 2 ^ 31 := by omega
  refine va_sald (D := D) hC.1 hC.2.1 hw.1 hw.2.1 7 6 rfl rfl (vp_in_nI hi (by omega)) hdg ?_
  rw [nI_clamp h31]
  exact kk
theorem x_st_lf {i v : Nat} (hC : cx_C p m c cc s args RX0) (hw : cx_W D (xT ct) A s H0 H locs (xW ad ct (kd, da, db, bt, ba, tp, st, nu, sp, lf, rt, bz, mv, ro, sk, hh))) (hi : i < 512) (hv : v < 512) (hdg : decode cc pc = .ok (.sastore, 1)) (kk : ∀ (H1 : Heap) (locs1 : List Loc), cx_W D (xT ct) A s H0 H1 locs1 (xW ad ct (kd, da, db, bt, ba, tp, st, nu, sp, va_up lf i v, rt, bz, mv, ro, sk, hh)) → W p l e R s m args below meth c H1 locs1 cells slots Q (F0 m (pc + 1) ls rest)) : W p l e R s m args below meth c H locs cells slots Q (F0 m pc ls (.int (nI v) :: .int (nI i) :: .ref (ad 7) :: rest)) := by
  have h31 : i < 2 ^ 31 := by omega
  refine va_sast (D := D) hC.1 hC.2.1 hw.1 hw.2.1 hw.2.2.1 hw.2.2.2.1 7 6 rfl rfl (vp_in_nI hi (by omega)) hdg (fun H1 locs1 hP hD hS => ?_)
  rw [xn_upN h31 (xn_ns hv)] at hP hD
  exact kk H1 locs1 ⟨hw.1, hP, hD, hS, hw.2.2.2.2⟩
theorem x_ld_rt {i : Nat} (hC : cx_C p m c cc s args RX0) (hw : cx_W D (xT ct) A s H0 H locs (xW ad ct (kd, da, db, bt, ba, tp, st, nu, sp, lf, rt, bz, mv, ro, sk, hh))) (hi : i < 512) (hdg : decode cc pc = .ok (.saload, 1)) (kk : W p l e R s m args below meth c H locs cells slots Q (F0 m (pc + 1) ls (.int (nI (rt i)) :: rest))) : W p l e R s m args below meth c H locs cells slots Q (F0 m pc ls (.int (nI i) :: .ref (ad 8) :: rest)) := by
  have h31 : i < 2 ^ 31 := by omega
  refine va_sald (D := D) hC.1 hC.2.1 hw.1 hw.2.1 8 7 rfl rfl (vp_in_nI hi (by omega)) hdg ?_
  rw [nI_clamp h31]
  exact kk
theorem x_st_rt {i v : Nat} (hC : cx_C p m c cc s args RX0) (hw : cx_W D (xT ct) A s H0 H locs (xW ad ct (kd, da, db, bt, ba, tp, st, nu, sp, lf, rt, bz, mv, ro, sk, hh))) (hi : i < 512) (hv : v < 512) (hdg : decode cc pc = .ok (.sastore, 1)) (kk : ∀ (H1 : Heap) (locs1 : List Loc), cx_W D (xT ct) A s H0 H1 locs1 (xW ad ct (kd, da, db, bt, ba, tp, st, nu, sp, lf, va_up rt i v, bz, mv, ro, sk, hh)) → W p l e R s m args below meth c H1 locs1 cells slots Q (F0 m (pc + 1) ls rest)) : W p l e R s m args below meth c H locs cells slots Q (F0 m pc ls (.int (nI v) :: .int (nI i) :: .ref (ad 8) :: rest)) := by
  have h31 : i < 2 ^ 31 := by omega
  refine va_sast (D := D) hC.1 hC.2.1 hw.1 hw.2.1 hw.2.2.1 hw.2.2.2.1 8 7 rfl rfl (vp_in_nI hi (by omega)) hdg (fun H1 locs1 hP hD hS => ?_)
  rw [xn_upN h31 (xn_ns hv)] at hP hD
  exact kk H1 locs1 ⟨hw.1, hP, hD, hS, hw.2.2.2.2⟩
theorem x_ld_bz {i : Nat} (hC : cx_C p m c cc s args RX0) (hw : cx_W D (xT ct) A s H0 H locs (xW ad ct (kd, da, db, bt, ba, tp, st, nu, sp, lf, rt, bz, mv, ro, sk, hh))) (hi : i < 512) (hdg : decode cc pc = .ok (.baload, 1)) (kk : W p l e R s m args below meth c H locs cells slots Q (F0 m (pc + 1) ls (.int (nI (bz i)) :: rest))) : W p l e R s m args below meth c H locs cells slots Q (F0 m pc ls (.int (nI i) :: .ref (ad 9) :: rest)) := by
  have h31 : i < 2 ^ 31 := by omega
  refine va_zald (D := D) hC.1 hC.2.1 hw.1 hw.2.1 9 8 rfl rfl (vp_in_nI hi (by omega)) hdg ?_
  rw [nI_clamp h31]
  exact kk
theorem x_st_bz {i v : Nat} (hC : cx_C p m c cc s args RX0) (hw : cx_W D (xT ct) A s H0 H locs (xW ad ct (kd, da, db, bt, ba, tp, st, nu, sp, lf, rt, bz, mv, ro, sk, hh))) (hi : i < 512) (hv : v < 2) (hdg : decode cc pc = .ok (.bastore, 1)) (kk : ∀ (H1 : Heap) (locs1 : List Loc), cx_W D (xT ct) A s H0 H1 locs1 (xW ad ct (kd, da, db, bt, ba, tp, st, nu, sp, lf, rt, va_up bz i v, mv, ro, sk, hh)) → W p l e R s m args below meth c H1 locs1 cells slots Q (F0 m (pc + 1) ls rest)) : W p l e R s m args below meth c H locs cells slots Q (F0 m pc ls (.int (nI v) :: .int (nI i) :: .ref (ad 9) :: rest)) := by
  have h31 : i < 2 ^ 31 := by omega
  refine va_zast (D := D) hC.1 hC.2.1 hw.1 hw.2.1 hw.2.2.1 hw.2.2.2.1 9 8 rfl rfl (vp_in_nI hi (by omega)) hdg (fun H1 locs1 hP hD hS => ?_)
  rw [xn_upN h31 (xn_nz hv)] at hP hD
  exact kk H1 locs1 ⟨hw.1, hP, hD, hS, hw.2.2.2.2⟩
theorem x_ld_mv {i : Nat} (hC : cx_C p m c cc s args RX0) (hw : cx_W D (xT ct) A s H0 H locs (xW ad ct (kd, da, db, bt, ba, tp, st, nu, sp, lf, rt, bz, mv, ro, sk, hh))) (hi : i < 512) (hdg : decode cc pc = .ok (.saload, 1)) (kk : W p l e R s m args below meth c H locs cells slots Q (F0 m (pc + 1) ls (.int (mv i) :: rest))) : W p l e R s m args below meth c H locs cells slots Q (F0 m pc ls (.int (nI i) :: .ref (ad 10) :: rest)) := by
  have h31 : i < 2 ^ 31 := by omega
  refine va_sald (D := D) hC.1 hC.2.1 hw.1 hw.2.1 10 9 rfl rfl (vp_in_nI hi (by omega)) hdg ?_
  rw [nI_clamp h31]
  exact kk
theorem x_ld_ro {i : Nat} (hC : cx_C p m c cc s args RX0) (hw : cx_W D (xT ct) A s H0 H locs (xW ad ct (kd, da, db, bt, ba, tp, st, nu, sp, lf, rt, bz, mv, ro, sk, hh))) (hi : i < 6) (hdg : decode cc pc = .ok (.saload, 1)) (kk : W p l e R s m args below meth c H locs cells slots Q (F0 m (pc + 1) ls (.int (nI (ro i)) :: rest))) : W p l e R s m args below meth c H locs cells slots Q (F0 m pc ls (.int (nI i) :: .ref (ad 11) :: rest)) := by
  have h31 : i < 2 ^ 31 := by omega
  refine va_sald (D := D) hC.1 hC.2.1 hw.1 hw.2.1 11 10 rfl rfl (vp_in_nI hi (by omega)) hdg ?_
  rw [nI_clamp h31]
  exact kk
theorem x_st_ro {i v : Nat} (hC : cx_C p m c cc s args RX0) (hw : cx_W D (xT ct) A s H0 H locs (xW ad ct (kd, da, db, bt, ba, tp, st, nu, sp, lf, rt, bz, mv, ro, sk, hh))) (hi : i < 6) (hv : v < 512) (hdg : decode cc pc = .ok (.sastore, 1)) (kk : ∀ (H1 : Heap) (locs1 : List Loc), cx_W D (xT ct) A s H0 H1 locs1 (xW ad ct (kd, da, db, bt, ba, tp, st, nu, sp, lf, rt, bz, mv, va_up ro i v, sk, hh)) → W p l e R s m args below meth c H1 locs1 cells slots Q (F0 m (pc + 1) ls rest)) : W p l e R s m args below meth c H locs cells slots Q (F0 m pc ls (.int (nI v) :: .int (nI i) :: .ref (ad 11) :: rest)) := by
  have h31 : i < 2 ^ 31 := by omega
  refine va_sast (D := D) hC.1 hC.2.1 hw.1 hw.2.1 hw.2.2.1 hw.2.2.2.1 11 10 rfl rfl (vp_in_nI hi (by omega)) hdg (fun H1 locs1 hP hD hS => ?_)
  rw [xn_upN h31 (xn_ns hv)] at hP hD
  exact kk H1 locs1 ⟨hw.1, hP, hD, hS, hw.2.2.2.2⟩
theorem x_ld_sk {i : Nat} (hC : cx_C p m c cc s args RX0) (hw : cx_W D (xT ct) A s H0 H locs (xW ad ct (kd, da, db, bt, ba, tp, st, nu, sp, lf, rt, bz, mv, ro, sk, hh))) (hi : i < 16) (hdg : decode cc pc = .ok (.saload, 1)) (kk : W p l e R s m args below meth c H locs cells slots Q (F0 m (pc + 1) ls (.int (nI (sk i)) :: rest))) : W p l e R s m args below meth c H locs cells slots Q (F0 m pc ls (.int (nI i) :: .ref (ad 12) :: rest)) := by
  have h31 : i < 2 ^ 31 := by omega
  refine va_sald (D := D) hC.1 hC.2.1 hw.1 hw.2.1 12 11 rfl rfl (vp_in_nI hi (by omega)) hdg ?_
  rw [nI_clamp h31]
  exact kk
theorem x_st_sk {i v : Nat} (hC : cx_C p m c cc s args RX0) (hw : cx_W D (xT ct) A s H0 H locs (xW ad ct (kd, da, db, bt, ba, tp, st, nu, sp, lf, rt, bz, mv, ro, sk, hh))) (hi : i < 16) (hv : v < 512) (hdg : decode cc pc = .ok (.sastore, 1)) (kk : ∀ (H1 : Heap) (locs1 : List Loc), cx_W D (xT ct) A s H0 H1 locs1 (xW ad ct (kd, da, db, bt, ba, tp, st, nu, sp, lf, rt, bz, mv, ro, va_up sk i v, hh)) → W p l e R s m args below meth c H1 locs1 cells slots Q (F0 m (pc + 1) ls rest)) : W p l e R s m args below meth c H locs cells slots Q (F0 m pc ls (.int (nI v) :: .int (nI i) :: .ref (ad 12) :: rest)) := by
  have h31 : i < 2 ^ 31 := by omega
  refine va_sast (D := D) hC.1 hC.2.1 hw.1 hw.2.1 hw.2.2.1 hw.2.2.2.1 12 11 rfl rfl (vp_in_nI hi (by omega)) hdg (fun H1 locs1 hP hD hS => ?_)
  rw [xn_upN h31 (xn_ns hv)] at hP hD
  exact kk H1 locs1 ⟨hw.1, hP, hD, hS, hw.2.2.2.2⟩
end
end
section

/-! SelectorGc: its leaves -/
def sg_sq (s : Int32) : Prop := ∃ j, j < 6 ∧ s = nI j
theorem sg_sq_yes {s : Int32} (h0 : ¬ s < 0) (h5 : ¬ nI 5 < s) : sg_sq s := by
  obtain ⟨j, hj, e⟩ := nI_of h0
  rw [e, nI_ltI (by omega) hj] at h5
  exact ⟨j, by omega, e⟩
theorem sg_sq_neg {s : Int32} (h0 : s < 0) : ¬ sg_sq s := by
  rintro ⟨j, hj, rfl⟩
  exact nI_pos (by omega) h0
theorem sg_sq_big {s : Int32} (h5 : nI 5 < s) : ¬ sg_sq s := by
  rintro ⟨j, hj, rfl⟩
  rw [nI_ltI (by omega) (by omega)] at h5
  omega
theorem sg_ilt {x y : Int32} : ¬ x < y ↔ y ≤ x := Int32.not_lt
def sg_rl (c : Nat) (nu : Nat → Int32) (lf : Nat → Nat) (l r : Nat) : Nat := if c = 8 then sg_ml nu lf l r else lf l
theorem sg_rl_n {c : Nat} {nu : Nat → Int32} {lf : Nat → Nat} {l r : Nat} (h : ¬ c = 8) : sg_rl c nu lf l r = lf l := by
  unfold sg_rl
  rw [if_neg h]
theorem sg_rl_t {c : Nat} {nu : Nat → Int32} {lf : Nat → Nat} {l r : Nat} (h : c = 8) (h1 : ¬ nu r < nu l) : sg_rl c nu lf l r = lf l := by
  unfold sg_rl sg_ml
  rw [if_pos h, if_pos (sg_ilt.mp h1)]
theorem sg_rl_f {c : Nat} {nu : Nat → Int32} {lf : Nat → Nat} {l r : Nat} (h : c = 8) (h1 : nu r < nu l) : sg_rl c nu lf l r = l := by
  unfold sg_rl sg_ml
  rw [if_pos h, if_neg (fun q => absurd h1 (sg_ilt.mpr q))]
def sg_hd (c : Nat) (x y : Int32) : Int32 := if c = 3 then x + y else if c = 4 then x * y else sg_min x y
set_option maxHeartbeats 4000000 in
set_option maxRecDepth 100000 in
/-- is it a number from 0 to 5 -/
theorem x_isSequence (l : Launch) {U : xS} {x : Int32}  : cx_Mi l yX0_isSequence cX0_isSequence 2 (some .boolean) ({ frames := 0, cells := 0, slots := 0, locals := 0 }) xW xT [.int x] (fun u => u = U) (fun _ r' u' => (r' = nI 1 ∧ u' = U ∧ sg_sq x) ∨ (r' = nI 0 ∧ u' = U ∧ ¬ sg_sq x)) := by
  refine cx_Mi.of (by decide) (fun _ => Nat.le_of_ble_eq_true rfl) ?_
  intro p e s m below meth c Dg ad ct A u ls hu hC hml hr hk hw hl
  subst hu
  have hC : cx_C p m c cX0_isSequence s _ RX0 := hC
  have hl : lv_has ls 2 [(0, .ref (ad 0)), (1, .int x)] := hl
  refine lv_iload_n hC.1 hC.2.1 dX0_isSequence_0 rfl (lv_at hl 1 rfl) ?_
  refine lv_if_lt (tgt := 13) hC.1 hC.2.1 dX0_isSequence_1 (by decide) (fun c1 => ?_) (fun c1 => ?_)
  · refine lv_iconst (v := nI 0) hC.1 hC.2.1 dX0_isSequence_13 (by decide) ?_
    exact cx_zret hC hr hk hw (by decide) (Or.inr ⟨rfl, rfl, sg_sq_neg c1⟩) dX0_isSequence_14
  · refine lv_iload_n hC.1 hC.2.1 dX0_isSequence_4 rfl (lv_at hl 1 rfl) ?_
    refine lv_iconst (v := nI 5) hC.1 hC.2.1 dX0_isSequence_5 (by decide) ?_
    refine lv_icmp_gt (tgt := 13) hC.1 hC.2.1 dX0_isSequence_6 (by decide) (fun c2 => ?_) (fun c2 => ?_)
    · refine lv_iconst (v := nI 0) hC.1 hC.2.1 dX0_isSequence_13 (by decide) ?_
      exact cx_zret hC hr hk hw (by decide) (Or.inr ⟨rfl, rfl, sg_sq_big c2⟩) dX0_isSequence_14
    · refine lv_iconst (v := nI 1) hC.1 hC.2.1 dX0_isSequence_9 (by decide) ?_
      refine lv_goto (tgt := 14) hC.1 hC.2.1 dX0_isSequence_10 (by decide) ?_
      exact cx_zret hC hr hk hw (by decide) (Or.inl ⟨rfl, rfl, sg_sq_yes c1 c2⟩) dX0_isSequence_14
set_option maxHeartbeats 4000000 in
set_option maxRecDepth 100000 in
/-- by the kind -/
theorem x_worksOnA (l : Launch) {U : xS} {x : Nat} (hx : x ≤ 8) : cx_Mi l yX0_worksOnA cX0_worksOnA 2 (some .boolean) ({ frames := 0, cells := 0, slots := 0, locals := 0 }) xW xT [.int (nI x)] (fun u => u = U) (fun _ r' u' => (r' = nI 1 ∧ u' = U ∧ sg_usA x) ∨ (r' = nI 0 ∧ u' = U ∧ ¬ sg_usA x)) := by
  refine cx_Mi.of (by decide) (fun _ => Nat.le_of_ble_eq_true rfl) ?_
  intro p e s m below meth c Dg ad ct A u ls hu hC hml hr hk hw hl
  subst hu
  have hC : cx_C p m c cX0_worksOnA s _ RX0 := hC
  have hl : lv_has ls 2 [(0, .ref (ad 0)), (1, .int (nI x))] := hl
  refine lv_iload_n hC.1 hC.2.1 dX0_worksOnA_0 rfl (lv_at hl 1 rfl) ?_
  refine lv_iconst (v := nI 2) hC.1 hC.2.1 dX0_worksOnA_1 (by decide) ?_
  refine xn_icmp_lt (tgt := 14) hC (by omega) (by omega) dX0_worksOnA_2 (by decide) (fun g1 => ?_) (fun g1 => ?_)
  · refine lv_iconst (v := nI 0) hC.1 hC.2.1 dX0_worksOnA_14 (by decide) ?_
    exact cx_zret hC hr hk hw (by decide) (Or.inr ⟨rfl, rfl, by unfold sg_usA; omega⟩) dX0_worksOnA_15
  · refine lv_iload_n hC.1 hC.2.1 dX0_worksOnA_5 rfl (lv_at hl 1 rfl) ?_
    refine lv_iconst (v := nI 5) hC.1 hC.2.1 dX0_worksOnA_6 (by decide) ?_
    refine xn_icmp_eq (tgt := 14) hC (by omega) (by omega) dX0_worksOnA_7 (by decide) (fun g2 => ?_) (fun g2 => ?_)
    · refine lv_iconst (v := nI 0) hC.1 hC.2.1 dX0_worksOnA_14 (by decide) ?_
      exact cx_zret hC hr hk hw (by decide) (Or.inr ⟨rfl, rfl, by unfold sg_usA; omega⟩) dX0_worksOnA_15
    · refine lv_iconst (v := nI 1) hC.1 hC.2.1 dX0_worksOnA_10 (by decide) ?_
      refine lv_goto (tgt := 15) hC.1 hC.2.1 dX0_worksOnA_11 (by decide) ?_
      exact cx_zret hC hr hk hw (by decide) (Or.inl ⟨rfl, rfl, by unfold sg_usA; omega⟩) dX0_worksOnA_15
set_option maxHeartbeats 4000000 in
set_option maxRecDepth 100000 in
/-- by the kind -/
theorem x_worksOnB (l : Launch) {U : xS} {x : Nat} (hx : x ≤ 8) : cx_Mi l yX0_worksOnB cX0_worksOnB 2 (some .boolean) ({ frames := 0, cells := 0, slots := 0, locals := 0 }) xW xT [.int (nI x)] (fun u => u = U) (fun _ r' u' => (r' = nI 1 ∧ u' = U ∧ sg_usB x) ∨ (r' = nI 0 ∧ u' = U ∧ ¬ sg_usB x)) := by
  refine cx_Mi.of (by decide) (fun _ => Nat.le_of_ble_eq_true rfl) ?_
  intro p e s m below meth c Dg ad ct A u ls hu hC hml hr hk hw hl
  subst hu
  have hC : cx_C p m c cX0_worksOnB s _ RX0 := hC
  have hl : lv_has ls 2 [(0, .ref (ad 0)), (1, .int (nI x))] := hl
  refine lv_iload_n hC.1 hC.2.1 dX0_worksOnB_0 rfl (lv_at hl 1 rfl) ?_
  refine lv_iconst (v := nI 1) hC.1 hC.2.1 dX0_worksOnB_1 (by decide) ?_
  refine xn_icmp_eq (tgt := 32) hC (by omega) (by omega) dX0_worksOnB_2 (by decide) (fun g1 => ?_) (fun g1 => ?_)
  · refine lv_iconst (v := nI 1) hC.1 hC.2.1 dX0_worksOnB_32 (by decide) ?_
    refine lv_goto (tgt := 37) hC.1 hC.2.1 dX0_worksOnB_33 (by decide) ?_
    exact cx_zret hC hr hk hw (by decide) (Or.inl ⟨rfl, rfl, by unfold sg_usB; omega⟩) dX0_worksOnB_37
  · refine lv_iload_n hC.1 hC.2.1 dX0_worksOnB_5 rfl (lv_at hl 1 rfl) ?_
    refine lv_iconst (v := nI 3) hC.1 hC.2.1 dX0_worksOnB_6 (by decide) ?_
    refine xn_icmp_eq (tgt := 32) hC (by omega) (by omega) dX0_worksOnB_7 (by decide) (fun g2 => ?_) (fun g2 => ?_)
    · refine lv_iconst (v := nI 1) hC.1 hC.2.1 dX0_worksOnB_32 (by decide) ?_
      refine lv_goto (tgt := 37) hC.1 hC.2.1 dX0_worksOnB_33 (by decide) ?_
      exact cx_zret hC hr hk hw (by decide) (Or.inl ⟨rfl, rfl, by unfold sg_usB; omega⟩) dX0_worksOnB_37
    · refine lv_iload_n hC.1 hC.2.1 dX0_worksOnB_10 rfl (lv_at hl 1 rfl) ?_
      refine lv_iconst (v := nI 4) hC.1 hC.2.1 dX0_worksOnB_11 (by decide) ?_
      refine xn_icmp_eq (tgt := 32) hC (by omega) (by omega) dX0_worksOnB_12 (by decide) (fun g3 => ?_) (fun g3 => ?_)
      · refine lv_iconst (v := nI 1) hC.1 hC.2.1 dX0_worksOnB_32 (by decide) ?_
        refine lv_goto (tgt := 37) hC.1 hC.2.1 dX0_worksOnB_33 (by decide) ?_
        exact cx_zret hC hr hk hw (by decide) (Or.inl ⟨rfl, rfl, by unfold sg_usB; omega⟩) dX0_worksOnB_37
      · refine lv_iload_n hC.1 hC.2.1 dX0_worksOnB_15 rfl (lv_at hl 1 rfl) ?_
        refine lv_iconst (v := nI 5) hC.1 hC.2.1 dX0_worksOnB_16 (by decide) ?_
        refine xn_icmp_eq (tgt := 32) hC (by omega) (by omega) dX0_worksOnB_17 (by decide) (fun g4 => ?_) (fun g4 => ?_)
        · refine lv_iconst (v := nI 1) hC.1 hC.2.1 dX0_worksOnB_32 (by decide) ?_
          refine lv_goto (tgt := 37) hC.1 hC.2.1 dX0_worksOnB_33 (by decide) ?_
          exact cx_zret hC hr hk hw (by decide) (Or.inl ⟨rfl, rfl, by unfold sg_usB; omega⟩) dX0_worksOnB_37
        · refine lv_iload_n hC.1 hC.2.1 dX0_worksOnB_20 rfl (lv_at hl 1 rfl) ?_
          refine lv_bipush (v := nI 7) hC.1 hC.2.1 dX0_worksOnB_21 (by decide) ?_
          refine xn_icmp_eq (tgt := 32) hC (by omega) (by omega) dX0_worksOnB_23 (by decide) (fun g5 => ?_) (fun g5 => ?_)
          · refine lv_iconst (v := nI 1) hC.1 hC.2.1 dX0_worksOnB_32 (by decide) ?_
            refine lv_goto (tgt := 37) hC.1 hC.2.1 dX0_worksOnB_33 (by decide) ?_
            exact cx_zret hC hr hk hw (by decide) (Or.inl ⟨rfl, rfl, by unfold sg_usB; omega⟩) dX0_worksOnB_37
          · refine lv_iload_n hC.1 hC.2.1 dX0_worksOnB_26 rfl (lv_at hl 1 rfl) ?_
            refine lv_bipush (v := nI 8) hC.1 hC.2.1 dX0_worksOnB_27 (by decide) ?_
            refine xn_icmp_ne (tgt := 36) hC (by omega) (by omega) dX0_worksOnB_29 (by decide) (fun g6 => ?_) (fun g6 => ?_)
            · refine lv_iconst (v := nI 0) hC.1 hC.2.1 dX0_worksOnB_36 (by decide) ?_
              exact cx_zret hC hr hk hw (by decide) (Or.inr ⟨rfl, rfl, by unfold sg_usB; omega⟩) dX0_worksOnB_37
            · refine lv_iconst (v := nI 1) hC.1 hC.2.1 dX0_worksOnB_32 (by decide) ?_
              refine lv_goto (tgt := 37) hC.1 hC.2.1 dX0_worksOnB_33 (by decide) ?_
              exact cx_zret hC hr hk hw (by decide) (Or.inl ⟨rfl, rfl, by unfold sg_usB; omega⟩) dX0_worksOnB_37
set_option maxHeartbeats 4000000 in
set_option maxRecDepth 100000 in
/-- the head of two cells -/
theorem x_headOfTwo (l : Launch) {U : xS} {k : Nat} {x y : Int32} (hk8 : k ≤ 8) : cx_Mi l yX0_headOfTwo cX0_headOfTwo 4 (some .int) ({ frames := 0, cells := 0, slots := 0, locals := 0 }) xW xT [.int (nI k), .int x, .int y] (fun u => u = U) (fun _ r' u' => r' = sg_hd k x y ∧ u' = U) := by
  refine cx_Mi.of (by decide) (fun _ => Nat.le_of_ble_eq_true rfl) ?_
  intro p e s m below meth c Dg ad ct A u ls hu hC hml hr hk hw hl
  subst hu
  have hC : cx_C p m c cX0_headOfTwo s _ RX0 := hC
  have hl : lv_has ls 4 [(0, .ref (ad 0)), (1, .int (nI k)), (2, .int x), (3, .int y)] := hl
  refine lv_iload_n hC.1 hC.2.1 dX0_headOfTwo_0 rfl (lv_at hl 1 rfl) ?_
  refine lv_iconst (v := nI 3) hC.1 hC.2.1 dX0_headOfTwo_1 (by decide) ?_
  refine xn_icmp_ne (tgt := 9) hC (by omega) (by omega) dX0_headOfTwo_2 (by decide) (fun c1 => ?_) (fun c1 => ?_)
  · refine lv_iload_n hC.1 hC.2.1 dX0_headOfTwo_9 rfl (lv_at hl 1 rfl) ?_
    refine lv_iconst (v := nI 4) hC.1 hC.2.1 dX0_headOfTwo_10 (by decide) ?_
    refine xn_icmp_ne (tgt := 18) hC (by omega) (by omega) dX0_headOfTwo_11 (by decide) (fun c2 => ?_) (fun c2 => ?_)
    · refine lv_iload_n hC.1 hC.2.1 dX0_headOfTwo_18 rfl (lv_at hl 2 rfl) ?_
      refine lv_iload_n hC.1 hC.2.1 dX0_headOfTwo_19 rfl (lv_at hl 3 rfl) ?_
      refine lv_icmp_ge (tgt := 27) hC.1 hC.2.1 dX0_headOfTwo_20 (by decide) (fun c3 => ?_) (fun c3 => ?_)
      · refine lv_iload_n hC.1 hC.2.1 dX0_headOfTwo_27 rfl (lv_at hl 3 rfl) ?_
        exact cx_iret hC hr hk hw ⟨by unfold sg_hd sg_min; rw [if_neg c1, if_neg c2, if_neg (fun q => absurd c3 (Int32.not_le.mpr q))], rfl⟩ dX0_headOfTwo_28
      · refine lv_iload_n hC.1 hC.2.1 dX0_headOfTwo_23 rfl (lv_at hl 2 rfl) ?_
        refine lv_goto (tgt := 28) hC.1 hC.2.1 dX0_headOfTwo_24 (by decide) ?_
        exact cx_iret hC hr hk hw ⟨by unfold sg_hd sg_min; rw [if_neg c1, if_neg c2, if_pos (Int32.not_le.mp c3)], rfl⟩ dX0_headOfTwo_28
    · refine lv_iload_n hC.1 hC.2.1 dX0_headOfTwo_14 rfl (lv_at hl 2 rfl) ?_
      refine lv_iload_n hC.1 hC.2.1 dX0_headOfTwo_15 rfl (lv_at hl 3 rfl) ?_
      refine lv_imul hC.1 hC.2.1 dX0_headOfTwo_16 ?_
      exact cx_iret hC hr hk hw ⟨by unfold sg_hd; rw [if_neg c1, if_pos c2], rfl⟩ dX0_headOfTwo_17
  · refine lv_iload_n hC.1 hC.2.1 dX0_headOfTwo_5 rfl (lv_at hl 2 rfl) ?_
    refine lv_iload_n hC.1 hC.2.1 dX0_headOfTwo_6 rfl (lv_at hl 3 rfl) ?_
    refine lv_iadd hC.1 hC.2.1 dX0_headOfTwo_7 ?_
    exact cx_iret hC hr hk hw ⟨by unfold sg_hd; rw [if_pos c1], rfl⟩ dX0_headOfTwo_8
set_option maxHeartbeats 4000000 in
set_option maxRecDepth 100000 in
/-- a new node at the top -/
theorem x_allocate (l : Launch) {kd : Nat → Nat} {da : Nat → Int32} {db : Nat → Int32} {bt : Nat} {ba : Nat} {tp : Nat} {st : Nat → Nat} {nu : Nat → Int32} {sp : Nat → Int32} {lf : Nat → Nat} {rt : Nat → Nat} {bz : Nat → Nat} {mv : Nat → Int32} {ro : Nat → Nat} {sk : Nat → Nat} {hh : Nat} {w : Nat} {n b : Int32} {a r : Nat} (h1 : tp < 512) (h2 : w < 128) (h3 : a < 512) (h4 : r < 512) : cx_Mi l yX0_allocate cX0_allocate 7 (some .int) ({ frames := 0, cells := 0, slots := 0, locals := 0 }) xW xT [.int (nI w), .int n, .int b, .int (nI a), .int (nI r)] (fun u => u = (kd, da, db, bt, ba, tp, st, nu, sp, lf, rt, bz, mv, ro, sk, hh)) (fun _ r' u' => r' = nI tp ∧ u' = (kd, da, db, bt, ba, tp + 1, va_up st tp w, va_up nu tp n, va_up sp tp b, va_up lf tp a, va_up rt tp r, va_up bz tp 0, mv, ro, sk, hh)) := by
  refine cx_Mi.of (by decide) (fun _ => Nat.le_of_ble_eq_true rfl) ?_
  intro p e s m below meth c Dg ad ct A u ls hu hC hml hr hk hw hl
  subst hu
  have hC : cx_C p m c cX0_allocate s _ RX0 := hC
  have hl : lv_has ls 7 [(0, .ref (ad 0)), (1, .int (nI w)), (2, .int n), (3, .int b), (4, .int (nI a)), (5, .int (nI r))] := hl
  refine lv_aload_n hC.1 hC.2.1 dX0_allocate_0 rfl (lv_at hl 0 rfl) ?_
  refine x_g_top hC hw dX0_allocate_1 ?_
  refine lv_istore (lv' := [(6, .int (nI tp)), (0, .ref (ad 0)), (1, .int (nI w)), (2, .int n), (3, .int b), (4, .int (nI a)), (5, .int (nI r))]) hC.1 hC.2.1 dX0_allocate_4 hl (by decide) rfl (fun ls hl => ?_)
  refine lv_aload_n hC.1 hC.2.1 dX0_allocate_6 rfl (lv_at hl 1 rfl) ?_
  refine lv_dup hC.1 hC.2.1 dX0_allocate_7 rfl ?_
  refine x_g_top hC hw dX0_allocate_8 ?_
  refine lv_iconst (v := nI 1) hC.1 hC.2.1 dX0_allocate_11 (by decide) ?_
  refine xn_iadd (r := tp + 1) hC rfl dX0_allocate_12 ?_
  refine x_p_top hC hw dX0_allocate_13 (fun H locs hw => ?_)
  refine lv_aload_n hC.1 hC.2.1 dX0_allocate_16 rfl (lv_at hl 1 rfl) ?_
  refine x_g_sort hC hw dX0_allocate_17 ?_
  refine lv_iload hC.1 hC.2.1 dX0_allocate_20 (lv_at hl 0 rfl) ?_
  refine lv_iload_n hC.1 hC.2.1 dX0_allocate_22 rfl (lv_at hl 2 rfl) ?_
  refine xn_i2b hC (by omega) dX0_allocate_23 ?_
  refine x_st_st (i := tp) (v := w) hC hw (by omega) (by omega) dX0_allocate_24 (fun H locs hw => ?_)
  refine lv_aload_n hC.1 hC.2.1 dX0_allocate_25 rfl (lv_at hl 1 rfl) ?_
  refine x_g_number hC hw dX0_allocate_26 ?_
  refine lv_iload hC.1 hC.2.1 dX0_allocate_29 (lv_at hl 0 rfl) ?_
  refine lv_iload_n hC.1 hC.2.1 dX0_allocate_31 rfl (lv_at hl 3 rfl) ?_
  refine x_st_nu (i := tp) (v := n) hC hw (by omega) dX0_allocate_32 (fun H locs hw => ?_)
  refine lv_aload_n hC.1 hC.2.1 dX0_allocate_33 rfl (lv_at hl 1 rfl) ?_
  refine x_g_step hC hw dX0_allocate_34 ?_
  refine lv_iload hC.1 hC.2.1 dX0_allocate_37 (lv_at hl 0 rfl) ?_
  refine lv_iload_n hC.1 hC.2.1 dX0_allocate_39 rfl (lv_at hl 4 rfl) ?_
  refine x_st_sp (i := tp) (v := b) hC hw (by omega) dX0_allocate_40 (fun H locs hw => ?_)
  refine lv_aload_n hC.1 hC.2.1 dX0_allocate_41 rfl (lv_at hl 1 rfl) ?_
  refine x_g_left hC hw dX0_allocate_42 ?_
  refine lv_iload hC.1 hC.2.1 dX0_allocate_45 (lv_at hl 0 rfl) ?_
  refine lv_iload hC.1 hC.2.1 dX0_allocate_47 (lv_at hl 5 rfl) ?_
  refine xn_i2s hC (by omega) dX0_allocate_49 ?_
  refine x_st_lf (i := tp) (v := a) hC hw (by omega) (by omega) dX0_allocate_50 (fun H locs hw => ?_)
  refine lv_aload_n hC.1 hC.2.1 dX0_allocate_51 rfl (lv_at hl 1 rfl) ?_
  refine x_g_right hC hw dX0_allocate_52 ?_
  refine lv_iload hC.1 hC.2.1 dX0_allocate_55 (lv_at hl 0 rfl) ?_
  refine lv_iload hC.1 hC.2.1 dX0_allocate_57 (lv_at hl 6 rfl) ?_
  refine xn_i2s hC (by omega) dX0_allocate_59 ?_
  refine x_st_rt (i := tp) (v := r) hC hw (by omega) (by omega) dX0_allocate_60 (fun H locs hw => ?_)
  refine lv_aload_n hC.1 hC.2.1 dX0_allocate_61 rfl (lv_at hl 1 rfl) ?_
  refine x_g_busy hC hw dX0_allocate_62 ?_
  refine lv_iload hC.1 hC.2.1 dX0_allocate_65 (lv_at hl 0 rfl) ?_
  refine lv_iconst (v := nI 0) hC.1 hC.2.1 dX0_allocate_67 (by decide) ?_
  refine x_st_bz (i := tp) (v := 0) hC hw (by omega) (by omega) dX0_allocate_68 (fun H locs hw => ?_)
  refine lv_iload hC.1 hC.2.1 dX0_allocate_69 (lv_at hl 0 rfl) ?_
  exact cx_iret hC hr hk hw ⟨rfl, rfl⟩ dX0_allocate_71
set_option maxHeartbeats 4000000 in
set_option maxRecDepth 100000 in
/-- what a link stands for -/
theorem x_follow (l : Launch) {kd : Nat → Nat} {da : Nat → Int32} {db : Nat → Int32} {bt : Nat} {ba : Nat} {tp : Nat} {st : Nat → Nat} {nu : Nat → Int32} {sp : Nat → Int32} {lf : Nat → Nat} {rt : Nat → Nat} {bz : Nat → Nat} {mv : Nat → Int32} {ro : Nat → Nat} {sk : Nat → Nat} {hh : Nat} {x : Nat} (h1 : x < 512 ∧ st x ≤ 10) (h2 : st x = 10 → lf x < 512 ∧ st (lf x) = 9) : cx_Mi l yX0_follow cX0_follow 3 (some .int) ({ frames := 0, cells := 0, slots := 0, locals := 0 }) xW xT [.int (nI x)] (fun u => u = (kd, da, db, bt, ba, tp, st, nu, sp, lf, rt, bz, mv, ro, sk, hh)) (fun _ r' u' => r' = nI (sg_fo st lf x) ∧ u' = (kd, da, db, bt, ba, tp, st, nu, sp, lf, rt, bz, mv, ro, sk, hh)) := by
  refine cx_Mi.of (by decide) (fun _ => Nat.le_of_ble_eq_true rfl) ?_
  intro p e s m below meth c Dg ad ct A u ls hu hC hml hr hk hw hl
  subst hu
  have hC : cx_C p m c cX0_follow s _ RX0 := hC
  have hl : lv_has ls 3 [(0, .ref (ad 0)), (1, .int (nI x))] := hl
  refine lv_iload_n hC.1 hC.2.1 dX0_follow_0 rfl (lv_at hl 1 rfl) ?_
  refine lv_istore_n (lv' := [(2, .int (nI x)), (0, .ref (ad 0)), (1, .int (nI x))]) hC.1 hC.2.1 dX0_follow_1 rfl hl (by decide) rfl (fun ls hl => ?_)
  refine lv_aload_n hC.1 hC.2.1 dX0_follow_2 rfl (lv_at hl 1 rfl) ?_
  refine x_g_sort hC hw dX0_follow_3 ?_
  refine lv_iload_n hC.1 hC.2.1 dX0_follow_6 rfl (lv_at hl 0 rfl) ?_
  refine x_ld_st (i := x) hC hw (by omega) dX0_follow_7 ?_
  refine lv_bipush (v := nI 10) hC.1 hC.2.1 dX0_follow_8 (by decide) ?_
  refine xn_icmp_ne (tgt := 23) hC (by omega) (by omega) dX0_follow_10 (by decide) (fun c1 => ?_) (fun c1 => ?_)
  · refine lv_iload_n hC.1 hC.2.1 dX0_follow_23 rfl (lv_at hl 0 rfl) ?_
    exact cx_iret hC hr hk hw ⟨by unfold sg_fo; rw [if_neg c1], rfl⟩ dX0_follow_24
  · obtain ⟨h3, h4⟩ := h2 c1
    refine lv_aload_n hC.1 hC.2.1 dX0_follow_13 rfl (lv_at hl 1 rfl) ?_
    refine x_g_left hC hw dX0_follow_14 ?_
    refine lv_iload_n hC.1 hC.2.1 dX0_follow_17 rfl (lv_at hl 0 rfl) ?_
    refine x_ld_lf (i := x) hC hw (by omega) dX0_follow_18 ?_
    refine lv_istore_n (lv' := [(2, .int (nI (lf x))), (0, .ref (ad 0)), (1, .int (nI x))]) hC.1 hC.2.1 dX0_follow_19 rfl hl (by decide) rfl (fun ls hl => ?_)
    refine lv_goto (tgt := 2) hC.1 hC.2.1 dX0_follow_20 (by decide) ?_
    refine lv_aload_n hC.1 hC.2.1 dX0_follow_2 rfl (lv_at hl 1 rfl) ?_
    refine x_g_sort hC hw dX0_follow_3 ?_
    refine lv_iload_n hC.1 hC.2.1 dX0_follow_6 rfl (lv_at hl 0 rfl) ?_
    refine x_ld_st (i := lf x) hC hw (by omega) dX0_follow_7 ?_
    refine lv_bipush (v := nI 10) hC.1 hC.2.1 dX0_follow_8 (by decide) ?_
    refine xn_icmp_ne (tgt := 23) hC (by omega) (by omega) dX0_follow_10 (by decide) (fun c2 => ?_) (fun c2 => absurd c2 (by omega))
    refine lv_iload_n hC.1 hC.2.1 dX0_follow_23 rfl (lv_at hl 0 rfl) ?_
    exact cx_iret hC hr hk hw ⟨by unfold sg_fo; rw [if_pos c1], rfl⟩ dX0_follow_24
set_option maxHeartbeats 4000000 in
set_option maxRecDepth 100000 in
/-- a node comes on the stack -/
theorem x_push (l : Launch) {kd : Nat → Nat} {da : Nat → Int32} {db : Nat → Int32} {bt : Nat} {ba : Nat} {tp : Nat} {st : Nat → Nat} {nu : Nat → Int32} {sp : Nat → Int32} {lf : Nat → Nat} {rt : Nat → Nat} {bz : Nat → Nat} {mv : Nat → Int32} {ro : Nat → Nat} {sk : Nat → Nat} {hh : Nat} {x : Nat} (h1 : hh < 16) (h2 : x < 512) : cx_Mv l yX0_push cX0_push 2 ({ frames := 0, cells := 0, slots := 0, locals := 0 }) xW xT [.int (nI x)] (fun u => u = (kd, da, db, bt, ba, tp, st, nu, sp, lf, rt, bz, mv, ro, sk, hh)) (fun _ u' => u' = (kd, da, db, bt, ba, tp, st, nu, sp, lf, rt, bz, mv, ro, va_up sk hh x, hh + 1)) := by
  refine cx_Mv.of (by decide) (fun _ => Nat.le_of_ble_eq_true rfl) ?_
  intro p e s m below meth c Dg ad ct A u ls hu hC hml hr hk hw hl
  subst hu
  have hC : cx_C p m c cX0_push s _ RX0 := hC
  have hl : lv_has ls 2 [(0, .ref (ad 0)), (1, .int (nI x))] := hl
  refine lv_aload_n hC.1 hC.2.1 dX0_push_0 rfl (lv_at hl 0 rfl) ?_
  refine x_g_stack hC hw dX0_push_1 ?_
  refine lv_aload_n hC.1 hC.2.1 dX0_push_4 rfl (lv_at hl 0 rfl) ?_
  refine x_g_stackTop hC hw dX0_push_5 ?_
  refine lv_iload_n hC.1 hC.2.1 dX0_push_8 rfl (lv_at hl 1 rfl) ?_
  refine xn_i2s hC (by omega) dX0_push_9 ?_
  refine x_st_sk (i := hh) (v := x) hC hw (by omega) (by omega) dX0_push_10 (fun H locs hw => ?_)
  refine lv_aload_n hC.1 hC.2.1 dX0_push_11 rfl (lv_at hl 0 rfl) ?_
  refine lv_dup hC.1 hC.2.1 dX0_push_12 rfl ?_
  refine x_g_stackTop hC hw dX0_push_13 ?_
  refine lv_iconst (v := nI 1) hC.1 hC.2.1 dX0_push_16 (by decide) ?_
  refine xn_iadd (r := hh + 1) hC rfl dX0_push_17 ?_
  refine x_p_stackTop hC hw dX0_push_18 (fun H locs hw => ?_)
  exact cx_vret hC hr hk hw rfl dX0_push_21
set_option maxHeartbeats 4000000 in
set_option maxRecDepth 100000 in
/-- the computation behind two cells -/
theorem x_restOfTwo (l : Launch) {kd : Nat → Nat} {da : Nat → Int32} {db : Nat → Int32} {bt : Nat} {ba : Nat} {tp : Nat} {st : Nat → Nat} {nu : Nat → Int32} {sp : Nat → Int32} {lf : Nat → Nat} {rt : Nat → Nat} {bz : Nat → Nat} {mv : Nat → Int32} {ro : Nat → Nat} {sk : Nat → Nat} {hh : Nat} {k x y : Nat} (hk8 : k ≤ 8) (h1 : tp < 512) (h2 : x < 512) (h3 : y < 512) (h4 : lf x < 512) (h5 : lf y < 512) : cx_Mi l yX0_restOfTwo cX0_restOfTwo 8 (some .int) ({ frames := 1, cells := 0, slots := 0, locals := 26 }) xW xT [.int (nI k), .int (nI x), .int (nI y)] (fun u => u = (kd, da, db, bt, ba, tp, st, nu, sp, lf, rt, bz, mv, ro, sk, hh)) (fun _ r' u' => r' = nI tp ∧ u' = (kd, da, db, bt, ba, tp + 1, va_up st tp k, va_up nu tp 0, va_up sp tp 0, va_up lf tp (sg_rl k nu lf x y), va_up rt tp (sg_rl k nu lf y x), va_up bz tp 0, mv, ro, sk, hh)) := by
  refine cx_Mi.of (by decide) (fun _ => Nat.le_of_ble_eq_true rfl) ?_
  intro p e s m below meth c Dg ad ct A u ls hu hC hml hr hk hw hl
  subst hu
  have hC : cx_C p m c cX0_restOfTwo s _ RX0 := hC
  have hl : lv_has ls 8 [(0, .ref (ad 0)), (1, .int (nI k)), (2, .int (nI x)), (3, .int (nI y))] := hl
  refine lv_iload_n hC.1 hC.2.1 dX0_restOfTwo_0 rfl (lv_at hl 1 rfl) ?_
  refine lv_bipush (v := nI 8) hC.1 hC.2.1 dX0_restOfTwo_1 (by decide) ?_
  refine xn_icmp_ne (tgt := 21) hC (by omega) (by omega) dX0_restOfTwo_3 (by decide) (fun c1 => ?_) (fun c1 => ?_)
  · refine lv_iconst (v := nI 1) hC.1 hC.2.1 dX0_restOfTwo_21 (by decide) ?_
    refine lv_goto (tgt := 26) hC.1 hC.2.1 dX0_restOfTwo_22 (by decide) ?_
    refine lv_istore (lv' := [(4, .int (nI 1)), (0, .ref (ad 0)), (1, .int (nI k)), (2, .int (nI x)), (3, .int (nI y))]) hC.1 hC.2.1 dX0_restOfTwo_26 hl (by decide) rfl (fun ls hl => ?_)
    refine lv_iload_n hC.1 hC.2.1 dX0_restOfTwo_28 rfl (lv_at hl 2 rfl) ?_
    refine lv_bipush (v := nI 8) hC.1 hC.2.1 dX0_restOfTwo_29 (by decide) ?_
    refine xn_icmp_ne (tgt := 49) hC (by omega) (by omega) dX0_restOfTwo_31 (by decide) (fun _ => ?_) (fun g1 => absurd g1 c1)
    refine lv_iconst (v := nI 1) hC.1 hC.2.1 dX0_restOfTwo_49 (by decide) ?_
    refine lv_goto (tgt := 54) hC.1 hC.2.1 dX0_restOfTwo_50 (by decide) ?_
    refine lv_istore (lv' := [(5, .int (nI 1)), (4, .int (nI 1)), (0, .ref (ad 0)), (1, .int (nI k)), (2, .int (nI x)), (3, .int (nI y))]) hC.1 hC.2.1 dX0_restOfTwo_54 hl (by decide) rfl (fun ls hl => ?_)
    refine lv_iload hC.1 hC.2.1 dX0_restOfTwo_56 (lv_at hl 1 rfl) ?_
    refine xn_if_eq (tgt := 70) hC (by omega) dX0_restOfTwo_58 (by decide) (fun c => absurd c (by decide)) (fun _ => ?_)
    refine lv_aload_n hC.1 hC.2.1 dX0_restOfTwo_61 rfl (lv_at hl 2 rfl) ?_
    refine x_g_left hC hw dX0_restOfTwo_62 ?_
    refine lv_iload_n hC.1 hC.2.1 dX0_restOfTwo_65 rfl (lv_at hl 4 rfl) ?_
    refine x_ld_lf (i := x) hC hw (by omega) dX0_restOfTwo_66 ?_
    refine lv_goto (tgt := 71) hC.1 hC.2.1 dX0_restOfTwo_67 (by decide) ?_
    refine lv_istore (lv' := [(6, .int (nI (lf x))), (5, .int (nI 1)), (4, .int (nI 1)), (0, .ref (ad 0)), (1, .int (nI k)), (2, .int (nI x)), (3, .int (nI y))]) hC.1 hC.2.1 dX0_restOfTwo_71 hl (by decide) rfl (fun ls hl => ?_)
    refine lv_iload hC.1 hC.2.1 dX0_restOfTwo_73 (lv_at hl 1 rfl) ?_
    refine xn_if_eq (tgt := 87) hC (by omega) dX0_restOfTwo_75 (by decide) (fun c => absurd c (by decide)) (fun _ => ?_)
    refine lv_aload_n hC.1 hC.2.1 dX0_restOfTwo_78 rfl (lv_at hl 3 rfl) ?_
    refine x_g_left hC hw dX0_restOfTwo_79 ?_
    refine lv_iload_n hC.1 hC.2.1 dX0_restOfTwo_82 rfl (lv_at hl 6 rfl) ?_
    refine x_ld_lf (i := y) hC hw (by omega) dX0_restOfTwo_83 ?_
    refine lv_goto (tgt := 88) hC.1 hC.2.1 dX0_restOfTwo_84 (by decide) ?_
    refine lv_istore (lv' := [(7, .int (nI (lf y))), (6, .int (nI (lf x))), (5, .int (nI 1)), (4, .int (nI 1)), (0, .ref (ad 0)), (1, .int (nI k)), (2, .int (nI x)), (3, .int (nI y))]) hC.1 hC.2.1 dX0_restOfTwo_88 hl (by decide) rfl (fun ls hl => ?_)
    refine lv_aload_n hC.1 hC.2.1 dX0_restOfTwo_90 rfl (lv_at hl 4 rfl) ?_
    refine lv_iload_n hC.1 hC.2.1 dX0_restOfTwo_91 rfl (lv_at hl 5 rfl) ?_
    refine lv_iconst (v := nI 0) hC.1 hC.2.1 dX0_restOfTwo_92 (by decide) ?_
    refine lv_iconst (v := nI 0) hC.1 hC.2.1 dX0_restOfTwo_93 (by decide) ?_
    refine lv_iload hC.1 hC.2.1 dX0_restOfTwo_94 (lv_at hl 1 rfl) ?_
    refine lv_iload hC.1 hC.2.1 dX0_restOfTwo_96 (lv_at hl 0 rfl) ?_
    refine cx_calli (ci := 0) (rest := []) (x_allocate l (w := k) (n := nI 0) (b := nI 0) (a := lf x) (r := lf y) (by omega) (by omega) (by omega) (by omega)) hC hml hl.1 hw rfl (cwV 5 hC.2.2.2 (lw_V q120 q122 qs5 q29 q123) rfl rfl rfl (by decide +kernel) ⟨Nat.le_of_ble_eq_true rfl, Nat.le_of_ble_eq_true rfl⟩) rfl rfl rfl rfl (Nat.le_of_ble_eq_true rfl) dX0_restOfTwo_98 ⟨Nat.zero_le _, Nat.zero_le _⟩ (fun r u' H locs hp hw => ?_)
    obtain ⟨rfl, rfl⟩ := hp
    exact cx_iret hC hr hk hw ⟨rfl, by rw [sg_rl_n c1, sg_rl_n c1, ← nI_0]⟩ dX0_restOfTwo_101
  · refine lv_aload_n hC.1 hC.2.1 dX0_restOfTwo_6 rfl (lv_at hl 0 rfl) ?_
    refine x_g_number hC hw dX0_restOfTwo_7 ?_
    refine lv_iload_n hC.1 hC.2.1 dX0_restOfTwo_10 rfl (lv_at hl 2 rfl) ?_
    refine x_ld_nu (i := x) hC hw (by omega) dX0_restOfTwo_11 ?_
    refine lv_aload_n hC.1 hC.2.1 dX0_restOfTwo_12 rfl (lv_at hl 0 rfl) ?_
    refine x_g_number hC hw dX0_restOfTwo_13 ?_
    refine lv_iload_n hC.1 hC.2.1 dX0_restOfTwo_16 rfl (lv_at hl 3 rfl) ?_
    refine x_ld_nu (i := y) hC hw (by omega) dX0_restOfTwo_17 ?_
    refine lv_icmp_gt (tgt := 25) hC.1 hC.2.1 dX0_restOfTwo_18 (by decide) (fun c2 => ?_) (fun c2 => ?_)
    · refine lv_iconst (v := nI 0) hC.1 hC.2.1 dX0_restOfTwo_25 (by decide) ?_
      refine lv_istore (lv' := [(4, .int (nI 0)), (0, .ref (ad 0)), (1, .int (nI k)), (2, .int (nI x)), (3, .int (nI y))]) hC.1 hC.2.1 dX0_restOfTwo_26 hl (by decide) rfl (fun ls hl => ?_)
      refine lv_iload_n hC.1 hC.2.1 dX0_restOfTwo_28 rfl (lv_at hl 2 rfl) ?_
      refine lv_bipush (v := nI 8) hC.1 hC.2.1 dX0_restOfTwo_29 (by decide) ?_
      refine xn_icmp_ne (tgt := 49) hC (by omega) (by omega) dX0_restOfTwo_31 (by decide) (fun g2 => absurd c1 g2) (fun _ => ?_)
      refine lv_aload_n hC.1 hC.2.1 dX0_restOfTwo_34 rfl (lv_at hl 1 rfl) ?_
      refine x_g_number hC hw dX0_restOfTwo_35 ?_
      refine lv_iload_n hC.1 hC.2.1 dX0_restOfTwo_38 rfl (lv_at hl 4 rfl) ?_
      refine x_ld_nu (i := y) hC hw (by omega) dX0_restOfTwo_39 ?_
      refine lv_aload_n hC.1 hC.2.1 dX0_restOfTwo_40 rfl (lv_at hl 1 rfl) ?_
      refine x_g_number hC hw dX0_restOfTwo_41 ?_
      refine lv_iload_n hC.1 hC.2.1 dX0_restOfTwo_44 rfl (lv_at hl 3 rfl) ?_
      refine x_ld_nu (i := x) hC hw (by omega) dX0_restOfTwo_45 ?_
      refine lv_icmp_gt (tgt := 53) hC.1 hC.2.1 dX0_restOfTwo_46 (by decide) (fun c3 => ?_) (fun c3 => ?_)
      · refine lv_iconst (v := nI 0) hC.1 hC.2.1 dX0_restOfTwo_53 (by decide) ?_
        refine lv_istore (lv' := [(5, .int (nI 0)), (4, .int (nI 0)), (0, .ref (ad 0)), (1, .int (nI k)), (2, .int (nI x)), (3, .int (nI y))]) hC.1 hC.2.1 dX0_restOfTwo_54 hl (by decide) rfl (fun ls hl => ?_)
        refine lv_iload hC.1 hC.2.1 dX0_restOfTwo_56 (lv_at hl 1 rfl) ?_
        refine xn_if_eq (tgt := 70) hC (by omega) dX0_restOfTwo_58 (by decide) (fun _ => ?_) (fun c => absurd c (by decide))
        refine lv_iload_n hC.1 hC.2.1 dX0_restOfTwo_70 rfl (lv_at hl 4 rfl) ?_
        refine lv_istore (lv' := [(6, .int (nI x)), (5, .int (nI 0)), (4, .int (nI 0)), (0, .ref (ad 0)), (1, .int (nI k)), (2, .int (nI x)), (3, .int (nI y))]) hC.1 hC.2.1 dX0_restOfTwo_71 hl (by decide) rfl (fun ls hl => ?_)
        refine lv_iload hC.1 hC.2.1 dX0_restOfTwo_73 (lv_at hl 1 rfl) ?_
        refine xn_if_eq (tgt := 87) hC (by omega) dX0_restOfTwo_75 (by decide) (fun _ => ?_) (fun c => absurd c (by decide))
        refine lv_iload_n hC.1 hC.2.1 dX0_restOfTwo_87 rfl (lv_at hl 6 rfl) ?_
        refine lv_istore (lv' := [(7, .int (nI y)), (6, .int (nI x)), (5, .int (nI 0)), (4, .int (nI 0)), (0, .ref (ad 0)), (1, .int (nI k)), (2, .int (nI x)), (3, .int (nI y))]) hC.1 hC.2.1 dX0_restOfTwo_88 hl (by decide) rfl (fun ls hl => ?_)
        refine lv_aload_n hC.1 hC.2.1 dX0_restOfTwo_90 rfl (lv_at hl 4 rfl) ?_
        refine lv_iload_n hC.1 hC.2.1 dX0_restOfTwo_91 rfl (lv_at hl 5 rfl) ?_
        refine lv_iconst (v := nI 0) hC.1 hC.2.1 dX0_restOfTwo_92 (by decide) ?_
        refine lv_iconst (v := nI 0) hC.1 hC.2.1 dX0_restOfTwo_93 (by decide) ?_
        refine lv_iload hC.1 hC.2.1 dX0_restOfTwo_94 (lv_at hl 1 rfl) ?_
        refine lv_iload hC.1 hC.2.1 dX0_restOfTwo_96 (lv_at hl 0 rfl) ?_
        refine cx_calli (ci := 0) (rest := []) (x_allocate l (w := k) (n := nI 0) (b := nI 0) (a := x) (r := y) (by omega) (by omega) (by omega) (by omega)) hC hml hl.1 hw rfl (cwV 5 hC.2.2.2 (lw_V q120 q122 qs5 q29 q123) rfl rfl rfl (by decide +kernel) ⟨Nat.le_of_ble_eq_true rfl, Nat.le_of_ble_eq_true rfl⟩) rfl rfl rfl rfl (Nat.le_of_ble_eq_true rfl) dX0_restOfTwo_98 ⟨Nat.zero_le _, Nat.zero_le _⟩ (fun r u' H locs hp hw => ?_)
        obtain ⟨rfl, rfl⟩ := hp
        exact cx_iret hC hr hk hw ⟨rfl, by rw [sg_rl_f c1 c2, sg_rl_f c1 c3, ← nI_0]⟩ dX0_restOfTwo_101
      · refine lv_iconst (v := nI 1) hC.1 hC.2.1 dX0_restOfTwo_49 (by decide) ?_
        refine lv_goto (tgt := 54) hC.1 hC.2.1 dX0_restOfTwo_50 (by decide) ?_
        refine lv_istore (lv' := [(5, .int (nI 1)), (4, .int (nI 0)), (0, .ref (ad 0)), (1, .int (nI k)), (2, .int (nI x)), (3, .int (nI y))]) hC.1 hC.2.1 dX0_restOfTwo_54 hl (by decide) rfl (fun ls hl => ?_)
        refine lv_iload hC.1 hC.2.1 dX0_restOfTwo_56 (lv_at hl 1 rfl) ?_
        refine xn_if_eq (tgt := 70) hC (by omega) dX0_restOfTwo_58 (by decide) (fun _ => ?_) (fun c => absurd c (by decide))
        refine lv_iload_n hC.1 hC.2.1 dX0_restOfTwo_70 rfl (lv_at hl 4 rfl) ?_
        refine lv_istore (lv' := [(6, .int (nI x)), (5, .int (nI 1)), (4, .int (nI 0)), (0, .ref (ad 0)), (1, .int (nI k)), (2, .int (nI x)), (3, .int (nI y))]) hC.1 hC.2.1 dX0_restOfTwo_71 hl (by decide) rfl (fun ls hl => ?_)
        refine lv_iload hC.1 hC.2.1 dX0_restOfTwo_73 (lv_at hl 1 rfl) ?_
        refine xn_if_eq (tgt := 87) hC (by omega) dX0_restOfTwo_75 (by decide) (fun c => absurd c (by decide)) (fun _ => ?_)
        refine lv_aload_n hC.1 hC.2.1 dX0_restOfTwo_78 rfl (lv_at hl 3 rfl) ?_
        refine x_g_left hC hw dX0_restOfTwo_79 ?_
        refine lv_iload_n hC.1 hC.2.1 dX0_restOfTwo_82 rfl (lv_at hl 6 rfl) ?_
        refine x_ld_lf (i := y) hC hw (by omega) dX0_restOfTwo_83 ?_
        refine lv_goto (tgt := 88) hC.1 hC.2.1 dX0_restOfTwo_84 (by decide) ?_
        refine lv_istore (lv' := [(7, .int (nI (lf y))), (6, .int (nI x)), (5, .int (nI 1)), (4, .int (nI 0)), (0, .ref (ad 0)), (1, .int (nI k)), (2, .int (nI x)), (3, .int (nI y))]) hC.1 hC.2.1 dX0_restOfTwo_88 hl (by decide) rfl (fun ls hl => ?_)
        refine lv_aload_n hC.1 hC.2.1 dX0_restOfTwo_90 rfl (lv_at hl 4 rfl) ?_
        refine lv_iload_n hC.1 hC.2.1 dX0_restOfTwo_91 rfl (lv_at hl 5 rfl) ?_
        refine lv_iconst (v := nI 0) hC.1 hC.2.1 dX0_restOfTwo_92 (by decide) ?_
        refine lv_iconst (v := nI 0) hC.1 hC.2.1 dX0_restOfTwo_93 (by decide) ?_
        refine lv_iload hC.1 hC.2.1 dX0_restOfTwo_94 (lv_at hl 1 rfl) ?_
        refine lv_iload hC.1 hC.2.1 dX0_restOfTwo_96 (lv_at hl 0 rfl) ?_
        refine cx_calli (ci := 0) (rest := []) (x_allocate l (w := k) (n := nI 0) (b := nI 0) (a := x) (r := lf y) (by omega) (by omega) (by omega) (by omega)) hC hml hl.1 hw rfl (cwV 5 hC.2.2.2 (lw_V q120 q122 qs5 q29 q123) rfl rfl rfl (by decide +kernel) ⟨Nat.le_of_ble_eq_true rfl, Nat.le_of_ble_eq_true rfl⟩) rfl rfl rfl rfl (Nat.le_of_ble_eq_true rfl) dX0_restOfTwo_98 ⟨Nat.zero_le _, Nat.zero_le _⟩ (fun r u' H locs hp hw => ?_)
        obtain ⟨rfl, rfl⟩ := hp
        exact cx_iret hC hr hk hw ⟨rfl, by rw [sg_rl_f c1 c2, sg_rl_t c1 c3, ← nI_0]⟩ dX0_restOfTwo_101
    · refine lv_iconst (v := nI 1) hC.1 hC.2.1 dX0_restOfTwo_21 (by decide) ?_
      refine lv_goto (tgt := 26) hC.1 hC.2.1 dX0_restOfTwo_22 (by decide) ?_
      refine lv_istore (lv' := [(4, .int (nI 1)), (0, .ref (ad 0)), (1, .int (nI k)), (2, .int (nI x)), (3, .int (nI y))]) hC.1 hC.2.1 dX0_restOfTwo_26 hl (by decide) rfl (fun ls hl => ?_)
      refine lv_iload_n hC.1 hC.2.1 dX0_restOfTwo_28 rfl (lv_at hl 2 rfl) ?_
      refine lv_bipush (v := nI 8) hC.1 hC.2.1 dX0_restOfTwo_29 (by decide) ?_
      refine xn_icmp_ne (tgt := 49) hC (by omega) (by omega) dX0_restOfTwo_31 (by decide) (fun g3 => absurd c1 g3) (fun _ => ?_)
      refine lv_aload_n hC.1 hC.2.1 dX0_restOfTwo_34 rfl (lv_at hl 1 rfl) ?_
      refine x_g_number hC hw dX0_restOfTwo_35 ?_
      refine lv_iload_n hC.1 hC.2.1 dX0_restOfTwo_38 rfl (lv_at hl 4 rfl) ?_
      refine x_ld_nu (i := y) hC hw (by omega) dX0_restOfTwo_39 ?_
      refine lv_aload_n hC.1 hC.2.1 dX0_restOfTwo_40 rfl (lv_at hl 1 rfl) ?_
      refine x_g_number hC hw dX0_restOfTwo_41 ?_
      refine lv_iload_n hC.1 hC.2.1 dX0_restOfTwo_44 rfl (lv_at hl 3 rfl) ?_
      refine x_ld_nu (i := x) hC hw (by omega) dX0_restOfTwo_45 ?_
      refine lv_icmp_gt (tgt := 53) hC.1 hC.2.1 dX0_restOfTwo_46 (by decide) (fun c3 => ?_) (fun c3 => ?_)
      · refine lv_iconst (v := nI 0) hC.1 hC.2.1 dX0_restOfTwo_53 (by decide) ?_
        refine lv_istore (lv' := [(5, .int (nI 0)), (4, .int (nI 1)), (0, .ref (ad 0)), (1, .int (nI k)), (2, .int (nI x)), (3, .int (nI y))]) hC.1 hC.2.1 dX0_restOfTwo_54 hl (by decide) rfl (fun ls hl => ?_)
        refine lv_iload hC.1 hC.2.1 dX0_restOfTwo_56 (lv_at hl 1 rfl) ?_
        refine xn_if_eq (tgt := 70) hC (by omega) dX0_restOfTwo_58 (by decide) (fun c => absurd c (by decide)) (fun _ => ?_)
        refine lv_aload_n hC.1 hC.2.1 dX0_restOfTwo_61 rfl (lv_at hl 2 rfl) ?_
        refine x_g_left hC hw dX0_restOfTwo_62 ?_
        refine lv_iload_n hC.1 hC.2.1 dX0_restOfTwo_65 rfl (lv_at hl 4 rfl) ?_
        refine x_ld_lf (i := x) hC hw (by omega) dX0_restOfTwo_66 ?_
        refine lv_goto (tgt := 71) hC.1 hC.2.1 dX0_restOfTwo_67 (by decide) ?_
        refine lv_istore (lv' := [(6, .int (nI (lf x))), (5, .int (nI 0)), (4, .int (nI 1)), (0, .ref (ad 0)), (1, .int (nI k)), (2, .int (nI x)), (3, .int (nI y))]) hC.1 hC.2.1 dX0_restOfTwo_71 hl (by decide) rfl (fun ls hl => ?_)
        refine lv_iload hC.1 hC.2.1 dX0_restOfTwo_73 (lv_at hl 1 rfl) ?_
        refine xn_if_eq (tgt := 87) hC (by omega) dX0_restOfTwo_75 (by decide) (fun _ => ?_) (fun c => absurd c (by decide))
        refine lv_iload_n hC.1 hC.2.1 dX0_restOfTwo_87 rfl (lv_at hl 6 rfl) ?_
        refine lv_istore (lv' := [(7, .int (nI y)), (6, .int (nI (lf x))), (5, .int (nI 0)), (4, .int (nI 1)), (0, .ref (ad 0)), (1, .int (nI k)), (2, .int (nI x)), (3, .int (nI y))]) hC.1 hC.2.1 dX0_restOfTwo_88 hl (by decide) rfl (fun ls hl => ?_)
        refine lv_aload_n hC.1 hC.2.1 dX0_restOfTwo_90 rfl (lv_at hl 4 rfl) ?_
        refine lv_iload_n hC.1 hC.2.1 dX0_restOfTwo_91 rfl (lv_at hl 5 rfl) ?_
        refine lv_iconst (v := nI 0) hC.1 hC.2.1 dX0_restOfTwo_92 (by decide) ?_
        refine lv_iconst (v := nI 0) hC.1 hC.2.1 dX0_restOfTwo_93 (by decide) ?_
        refine lv_iload hC.1 hC.2.1 dX0_restOfTwo_94 (lv_at hl 1 rfl) ?_
        refine lv_iload hC.1 hC.2.1 dX0_restOfTwo_96 (lv_at hl 0 rfl) ?_
        refine cx_calli (ci := 0) (rest := []) (x_allocate l (w := k) (n := nI 0) (b := nI 0) (a := lf x) (r := y) (by omega) (by omega) (by omega) (by omega)) hC hml hl.1 hw rfl (cwV 5 hC.2.2.2 (lw_V q120 q122 qs5 q29 q123) rfl rfl rfl (by decide +kernel) ⟨Nat.le_of_ble_eq_true rfl, Nat.le_of_ble_eq_true rfl⟩) rfl rfl rfl rfl (Nat.le_of_ble_eq_true rfl) dX0_restOfTwo_98 ⟨Nat.zero_le _, Nat.zero_le _⟩ (fun r u' H locs hp hw => ?_)
        obtain ⟨rfl, rfl⟩ := hp
        exact cx_iret hC hr hk hw ⟨rfl, by rw [sg_rl_t c1 c2, sg_rl_f c1 c3, ← nI_0]⟩ dX0_restOfTwo_101
      · refine lv_iconst (v := nI 1) hC.1 hC.2.1 dX0_restOfTwo_49 (by decide) ?_
        refine lv_goto (tgt := 54) hC.1 hC.2.1 dX0_restOfTwo_50 (by decide) ?_
        refine lv_istore (lv' := [(5, .int (nI 1)), (4, .int (nI 1)), (0, .ref (ad 0)), (1, .int (nI k)), (2, .int (nI x)), (3, .int (nI y))]) hC.1 hC.2.1 dX0_restOfTwo_54 hl (by decide) rfl (fun ls hl => ?_)
        refine lv_iload hC.1 hC.2.1 dX0_restOfTwo_56 (lv_at hl 1 rfl) ?_
        refine xn_if_eq (tgt := 70) hC (by omega) dX0_restOfTwo_58 (by decide) (fun c => absurd c (by decide)) (fun _ => ?_)
        refine lv_aload_n hC.1 hC.2.1 dX0_restOfTwo_61 rfl (lv_at hl 2 rfl) ?_
        refine x_g_left hC hw dX0_restOfTwo_62 ?_
        refine lv_iload_n hC.1 hC.2.1 dX0_restOfTwo_65 rfl (lv_at hl 4 rfl) ?_
        refine x_ld_lf (i := x) hC hw (by omega) dX0_restOfTwo_66 ?_
        refine lv_goto (tgt := 71) hC.1 hC.2.1 dX0_restOfTwo_67 (by decide) ?_
        refine lv_istore (lv' := [(6, .int (nI (lf x))), (5, .int (nI 1)), (4, .int (nI 1)), (0, .ref (ad 0)), (1, .int (nI k)), (2, .int (nI x)), (3, .int (nI y))]) hC.1 hC.2.1 dX0_restOfTwo_71 hl (by decide) rfl (fun ls hl => ?_)
        refine lv_iload hC.1 hC.2.1 dX0_restOfTwo_73 (lv_at hl 1 rfl) ?_
        refine xn_if_eq (tgt := 87) hC (by omega) dX0_restOfTwo_75 (by decide) (fun c => absurd c (by decide)) (fun _ => ?_)
        refine lv_aload_n hC.1 hC.2.1 dX0_restOfTwo_78 rfl (lv_at hl 3 rfl) ?_
        refine x_g_left hC hw dX0_restOfTwo_79 ?_
        refine lv_iload_n hC.1 hC.2.1 dX0_restOfTwo_82 rfl (lv_at hl 6 rfl) ?_
        refine x_ld_lf (i := y) hC hw (by omega) dX0_restOfTwo_83 ?_
        refine lv_goto (tgt := 88) hC.1 hC.2.1 dX0_restOfTwo_84 (by decide) ?_
        refine lv_istore (lv' := [(7, .int (nI (lf y))), (6, .int (nI (lf x))), (5, .int (nI 1)), (4, .int (nI 1)), (0, .ref (ad 0)), (1, .int (nI k)), (2, .int (nI x)), (3, .int (nI y))]) hC.1 hC.2.1 dX0_restOfTwo_88 hl (by decide) rfl (fun ls hl => ?_)
        refine lv_aload_n hC.1 hC.2.1 dX0_restOfTwo_90 rfl (lv_at hl 4 rfl) ?_
        refine lv_iload_n hC.1 hC.2.1 dX0_restOfTwo_91 rfl (lv_at hl 5 rfl) ?_
        refine lv_iconst (v := nI 0) hC.1 hC.2.1 dX0_restOfTwo_92 (by decide) ?_
        refine lv_iconst (v := nI 0) hC.1 hC.2.1 dX0_restOfTwo_93 (by decide) ?_
        refine lv_iload hC.1 hC.2.1 dX0_restOfTwo_94 (lv_at hl 1 rfl) ?_
        refine lv_iload hC.1 hC.2.1 dX0_restOfTwo_96 (lv_at hl 0 rfl) ?_
        refine cx_calli (ci := 0) (rest := []) (x_allocate l (w := k) (n := nI 0) (b := nI 0) (a := lf x) (r := lf y) (by omega) (by omega) (by omega) (by omega)) hC hml hl.1 hw rfl (cwV 5 hC.2.2.2 (lw_V q120 q122 qs5 q29 q123) rfl rfl rfl (by decide +kernel) ⟨Nat.le_of_ble_eq_true rfl, Nat.le_of_ble_eq_true rfl⟩) rfl rfl rfl rfl (Nat.le_of_ble_eq_true rfl) dX0_restOfTwo_98 ⟨Nat.zero_le _, Nat.zero_le _⟩ (fun r u' H locs hp hw => ?_)
        obtain ⟨rfl, rfl⟩ := hp
        exact cx_iret hC hr hk hw ⟨rfl, by rw [sg_rl_t c1 c2, sg_rl_t c1 c3, ← nI_0]⟩ dX0_restOfTwo_101
set_option maxHeartbeats 4000000 in
set_option maxRecDepth 100000 in
/-- nothing waits any more -/
theorem x_giveUp (l : Launch) {kd : Nat → Nat} {da : Nat → Int32} {db : Nat → Int32} {bt : Nat} {ba : Nat} {tp : Nat} {st : Nat → Nat} {nu : Nat → Int32} {sp : Nat → Int32} {lf : Nat → Nat} {rt : Nat → Nat} {bz : Nat → Nat} {mv : Nat → Int32} {ro : Nat → Nat} {sk : Nat → Nat} {hh : Nat}  (h1 : hh ≤ 16) (h2 : ∀ q, q < hh → sk q < 512) : cx_Mv l yX0_giveUp cX0_giveUp 2 ({ frames := 0, cells := 0, slots := 0, locals := 0 }) xW xT [] (fun u => u = (kd, da, db, bt, ba, tp, st, nu, sp, lf, rt, bz, mv, ro, sk, hh)) (fun _ u' => ∃ bz', (∀ q, q < hh → bz' (sk q) = 0) ∧ (∀ y, (∀ q, q < hh → sk q ≠ y) → bz' y = bz y) ∧ u' = (kd, da, db, bt, ba, tp, st, nu, sp, lf, rt, bz', mv, ro, sk, 0)) := by
  refine cx_Mv.of (by decide) (fun _ => Nat.le_of_ble_eq_true rfl) ?_
  intro p e s m below meth c Dg ad ct A u ls hu hC hml hr hk hw hl
  subst hu
  have hC : cx_C p m c cX0_giveUp s _ RX0 := hC
  have hl : lv_has ls 2 [(0, .ref (ad 0))] := hl
  have loop : ∀ (n : Nat) (i : Nat) (bz' : Nat → Nat), i ≤ hh → hh + 1 ≤ i + n → (∀ q, q < i → bz' (sk q) = 0) → (∀ y, (∀ q, q < hh → sk q ≠ y) → bz' y = bz y) → ∀ (H : Heap) (locs : List Loc) (ls : Array Slot), cx_W Dg (xT ct) A s s.heap H locs (xW ad ct (kd, da, db, bt, ba, tp, st, nu, sp, lf, rt, bz', mv, ro, sk, hh)) → lv_has ls 2 [(1, .int (nI i)), (0, .ref (ad 0))] → W p l e ({ frames := 0, cells := 0, slots := 0, locals := 0 }) s m ([.ref (ad 0)] : List Value).toArray below meth c H locs 0 0 (MQ below (va_Qv (fun u' => ∃ bz', (∀ q, q < hh → bz' (sk q) = 0) ∧ (∀ y, (∀ q, q < hh → sk q ≠ y) → bz' y = bz y) ∧ u' = (kd, da, db, bt, ba, tp, st, nu, sp, lf, rt, bz', mv, ro, sk, 0)) (cx_B Dg (xT ct) (xW ad ct) A) A) ([.ref (ad 0)] : List Value).toArray s 0 0 A) (F0 m 2 ls []) := by
    intro n
    induction n with
    | zero =>
      intro i bz' h3 h4 h5 h6
      exact absurd h4 (by omega)
    | succ n ih =>
      intro i bz' h3 h4 h5 h6 H locs ls hw hl
      refine lv_iload_n hC.1 hC.2.1 dX0_giveUp_2 rfl (lv_at hl 0 rfl) ?_
      refine lv_aload_n hC.1 hC.2.1 dX0_giveUp_3 rfl (lv_at hl 1 rfl) ?_
      refine x_g_stackTop hC hw dX0_giveUp_4 ?_
      refine xn_icmp_ge (tgt := 28) hC (by omega) (by omega) dX0_giveUp_7 (by decide) (fun c1 => ?_) (fun c1 => ?_)
      · refine lv_aload_n hC.1 hC.2.1 dX0_giveUp_28 rfl (lv_at hl 1 rfl) ?_
        refine lv_iconst (v := nI 0) hC.1 hC.2.1 dX0_giveUp_29 (by decide) ?_
        refine x_p_stackTop hC hw dX0_giveUp_30 (fun H locs hw => ?_)
        exact cx_vret hC hr hk hw ⟨bz', fun q hq => h5 q (by omega), h6, rfl⟩ dX0_giveUp_33
      · refine lv_aload_n hC.1 hC.2.1 dX0_giveUp_10 rfl (lv_at hl 1 rfl) ?_
        refine x_g_busy hC hw dX0_giveUp_11 ?_
        refine lv_aload_n hC.1 hC.2.1 dX0_giveUp_14 rfl (lv_at hl 1 rfl) ?_
        refine x_g_stack hC hw dX0_giveUp_15 ?_
        refine lv_iload_n hC.1 hC.2.1 dX0_giveUp_18 rfl (lv_at hl 0 rfl) ?_
        refine x_ld_sk (i := i) hC hw (by omega) dX0_giveUp_19 ?_
        refine lv_iconst (v := nI 0) hC.1 hC.2.1 dX0_giveUp_20 (by decide) ?_
        refine x_st_bz (i := sk i) (v := 0) hC hw (h2 i (by omega)) (by omega) dX0_giveUp_21 (fun H locs hw => ?_)
        refine lv_iinc (v := nI (i + 1)) (lv' := [(1, .int (nI (i + 1))), (0, .ref (ad 0))]) hC.1 hC.2.1 dX0_giveUp_22 hl (k := 0) rfl (xn_inc _) (by decide) rfl (fun ls hl => ?_)
        refine lv_goto (tgt := 2) hC.1 hC.2.1 dX0_giveUp_25 (by decide) ?_
        refine ih (i + 1) _ (by omega) (by omega) (fun q hq => ?_) (fun y hy => ?_) H locs ls hw hl
        · by_cases e : sk q = sk i
          · rw [e, sg_us]
          · rw [sg_un e]
            exact h5 q (by rcases Nat.lt_or_ge q i with z | z; exact z; exact absurd (by rw [show q = i by omega]) e)
        · rw [sg_un (fun e => hy i (by omega) e.symm)]
          exact h6 y hy
  refine lv_iconst (v := nI 0) hC.1 hC.2.1 dX0_giveUp_0 (by decide) ?_
  refine lv_istore_n (lv' := [(1, .int (nI 0)), (0, .ref (ad 0))]) hC.1 hC.2.1 dX0_giveUp_1 rfl hl (by decide) rfl (fun ls hl => ?_)
  exact loop (hh + 1) 0 bz (Nat.zero_le _) (by omega) (fun q hq => absurd hq (by omega)) (fun _ _ => rfl) _ _ _ hw hl
end
section

/-! SelectorGc: wantedBy, finish -/
section
variable {D : sg_D} {nm : Nat → Nat × Nat} {st : Nat → Nat} {nu sp : Nat → Int32} {lf rt : Nat → Nat} {tp : Nat}
theorem sg_Inv.fol1 (hI : sg_Inv D nm st nu sp lf rt tp) {y : Nat} (hy : y < tp) : y < 512 ∧ st y ≤ 10 := ⟨by have := hI.top; omega, hI.le10 hy⟩
theorem sg_Inv.fol2 (hI : sg_Inv D nm st nu sp lf rt tp) {y : Nat} (hy : y < tp) : st y = 10 → lf y < 512 ∧ st (lf y) = 9 := fun e => ⟨by have := hI.top; have := (hI.rng hy).2.2.1; omega, (hI.li hy e).2.2.1⟩
theorem sg_Rd.two {x : Nat} (h : sg_Rd st lf rt x) (e : st x = 2) : st (lf x) = 9 ∧ st (sg_fo st lf (lf (lf x))) = 9 := by
  rcases h with q | ⟨-, q⟩ | ⟨q, -⟩ | ⟨q, -⟩
  · omega
  · exact q
  · omega
  · omega
theorem sg_Rd.left {x : Nat} (h : sg_Rd st lf rt x) (e : ¬ st x = 0) : st (lf x) = 9 := by
  rcases h with q | ⟨-, q, -⟩ | ⟨-, q⟩ | ⟨-, q, -⟩
  · omega
  · exact q
  · exact q
  · exact q
theorem sg_Rd.right {x : Nat} (h : sg_Rd st lf rt x) (e : st x = 3 ∨ st x = 4 ∨ st x = 8) : st (rt x) = 9 := by
  rcases h with q | ⟨q, -⟩ | ⟨q, -⟩ | ⟨-, -, q⟩
  · omega
  · omega
  · omega
  · exact q
theorem sg_Inv.lkf (hI : sg_Inv D nm st nu sp lf rt tp) {x : Nat} (hx : x < tp) (h2 : st x = 2) (h9 : st (lf x) = 9) (hz : st (sg_fo st lf (lf (lf x))) = 9) : (lf (lf x) < 512 ∧ va_up st x 10 (lf (lf x)) ≤ 10) ∧ (va_up st x 10 (lf (lf x)) = 10 → lf (lf (lf x)) < 512 ∧ va_up st x 10 (lf (lf (lf x))) = 9) ∧ sg_fo (va_up st x 10) lf (lf (lf x)) < 512 := by
  obtain ⟨-, hne, -⟩ := hI.link hx h2 h9 hz
  have ht := hI.top
  have hl := (hI.rng hx).2.2.1
  have hll := (hI.rng hl).2.2.1
  rw [sg_un hne]
  refine ⟨⟨by omega, hI.le10 hll⟩, fun e => ?_, ?_⟩
  · obtain ⟨q1, q2⟩ := hI.fol2 hll e
    refine ⟨q1, ?_⟩
    rw [sg_un (fun q => by rw [q] at q2; omega)]
    exact q2
  · unfold sg_fo
    rw [sg_un hne]
    have := (hI.rng hll).2.2.1
    split <;> omega
end
theorem sg_hd3 (x y : Int32) : sg_hd 3 x y = x + y := rfl
theorem sg_hd4 (x y : Int32) : sg_hd 4 x y = x * y := rfl
theorem sg_hd8 (x y : Int32) : sg_hd 8 x y = sg_min x y := rfl
theorem sg_rl8 (nu : Nat → Int32) (lf : Nat → Nat) (l r : Nat) : sg_rl 8 nu lf l r = sg_ml nu lf l r := rfl
set_option maxHeartbeats 4000000 in
set_option maxRecDepth 100000 in
/-- what a computation waits for -/
theorem x_wantedBy (l : Launch) {kd : Nat → Nat} {da : Nat → Int32} {db : Nat → Int32} {bt : Nat} {ba : Nat} {tp : Nat} {st : Nat → Nat} {nu : Nat → Int32} {sp : Nat → Int32} {lf : Nat → Nat} {rt : Nat → Nat} {bz : Nat → Nat} {mv : Nat → Int32} {ro : Nat → Nat} {sk : Nat → Nat} {hh : Nat} {nm : Nat → Nat × Nat} {x : Nat} (hD : sg_Ok (kd, da, db)) (hI : sg_Inv (kd, da, db) nm st nu sp lf rt tp) (hx : x < tp) (h8 : st x ≤ 8) : cx_Mi l yX0_wantedBy cX0_wantedBy 5 (some .int) ({ frames := 1, cells := 0, slots := 0, locals := 22 }) xW xT [.int (nI x)] (fun u => u = (kd, da, db, bt, ba, tp, st, nu, sp, lf, rt, bz, mv, ro, sk, hh)) (fun _ r' u' => ∃ lf' rt', sg_Inv (kd, da, db) nm st nu sp lf' rt' tp ∧ u' = (kd, da, db, bt, ba, tp, st, nu, sp, lf', rt', bz, mv, ro, sk, hh) ∧ ((r' = -1 ∧ sg_Rd st lf' rt' x) ∨ ∃ w, r' = nI w ∧ w < tp ∧ sg_Wt (kd, da, db) nm st tp x w)) := by
  refine cx_Mi.of (by decide) (fun _ => Nat.le_of_ble_eq_true rfl) ?_
  intro p e s m below meth c Dg ad ct A u ls hu hC hml hr hk hw hl
  subst hu
  have hC : cx_C p m c cX0_wantedBy s _ RX0 := hC
  have hl : lv_has ls 5 [(0, .ref (ad 0)), (1, .int (nI x))] := hl
  have ht := hI.top
  obtain ⟨-, -, hlx, hrx⟩ := hI.rng hx
  have hsu := (hI.su hx h8).2.le
  refine lv_aload_n hC.1 hC.2.1 dX0_wantedBy_0 rfl (lv_at hl 0 rfl) ?_
  refine x_g_sort hC hw dX0_wantedBy_1 ?_
  refine lv_iload_n hC.1 hC.2.1 dX0_wantedBy_4 rfl (lv_at hl 1 rfl) ?_
  refine x_ld_st (i := x) hC hw (by omega) dX0_wantedBy_5 ?_
  refine lv_istore_n (lv' := [(2, .int (nI (st x))), (0, .ref (ad 0)), (1, .int (nI x))]) hC.1 hC.2.1 dX0_wantedBy_6 rfl hl (by decide) rfl (fun ls hl => ?_)
  refine lv_iload_n hC.1 hC.2.1 dX0_wantedBy_7 rfl (lv_at hl 0 rfl) ?_
  refine xn_if_ne (tgt := 13) hC (by omega) dX0_wantedBy_8 (by decide) (fun c1 => ?_) (fun c1 => ?_)
  · refine lv_aload_n hC.1 hC.2.1 dX0_wantedBy_13 rfl (lv_at hl 1 rfl) ?_
    refine lv_aload_n hC.1 hC.2.1 dX0_wantedBy_14 rfl (lv_at hl 1 rfl) ?_
    refine x_g_left hC hw dX0_wantedBy_15 ?_
    refine lv_iload_n hC.1 hC.2.1 dX0_wantedBy_18 rfl (lv_at hl 2 rfl) ?_
    refine x_ld_lf (i := x) hC hw (by omega) dX0_wantedBy_19 ?_
    refine cx_calli (ci := 0) (rest := []) (x_follow l (x := lf x) (hI.fol1 hlx) (hI.fol2 hlx)) hC hml hl.1 hw rfl (cwV 1 hC.2.2.2 (lw_V q144 q146 qs11 q29 q147) rfl rfl rfl (by decide +kernel) ⟨Nat.le_of_ble_eq_true rfl, Nat.le_of_ble_eq_true rfl⟩) rfl rfl rfl rfl (Nat.le_of_ble_eq_true rfl) dX0_wantedBy_20 ⟨Nat.zero_le _, Nat.zero_le _⟩ (fun r u' H locs hp hw => ?_)
    obtain ⟨rfl, rfl⟩ := hp
    obtain ⟨hf10, hft⟩ := sg_fo_n10 hI hlx
    have hf11 := hI.le10 hft
    refine lv_istore_n (lv' := [(3, .int (nI (sg_fo st lf (lf x)))), (2, .int (nI (st x))), (0, .ref (ad 0)), (1, .int (nI x))]) hC.1 hC.2.1 dX0_wantedBy_23 rfl hl (by decide) rfl (fun ls hl => ?_)
    refine lv_aload_n hC.1 hC.2.1 dX0_wantedBy_24 rfl (lv_at hl 2 rfl) ?_
    refine x_g_left hC hw dX0_wantedBy_25 ?_
    refine lv_iload_n hC.1 hC.2.1 dX0_wantedBy_28 rfl (lv_at hl 3 rfl) ?_
    refine lv_iload_n hC.1 hC.2.1 dX0_wantedBy_29 rfl (lv_at hl 0 rfl) ?_
    refine xn_i2s hC (by omega) dX0_wantedBy_30 ?_
    refine x_st_lf (i := x) (v := sg_fo st lf (lf x)) hC hw (by omega) (by omega) dX0_wantedBy_31 (fun H locs hw => ?_)
    have hI1 : sg_Inv (kd, da, db) nm st nu sp (va_up lf x (sg_fo st lf (lf x))) rt tp := hI.setL hx h8 hft (fun s k h => h.fo hI)
    have el1 : (va_up lf x (sg_fo st lf (lf x))) x = (sg_fo st lf (lf x)) := sg_us _ _ _
    refine lv_aload_n hC.1 hC.2.1 dX0_wantedBy_32 rfl (lv_at hl 2 rfl) ?_
    refine x_g_sort hC hw dX0_wantedBy_33 ?_
    refine lv_iload_n hC.1 hC.2.1 dX0_wantedBy_36 rfl (lv_at hl 0 rfl) ?_
    refine x_ld_st (i := sg_fo st lf (lf x)) hC hw (by omega) dX0_wantedBy_37 ?_
    refine lv_bipush (v := nI 9) hC.1 hC.2.1 dX0_wantedBy_38 (by decide) ?_
    refine xn_icmp_eq (tgt := 45) hC (by omega) (by omega) dX0_wantedBy_40 (by decide) (fun c2 => ?_) (fun c2 => ?_)
    · refine lv_iload_n hC.1 hC.2.1 dX0_wantedBy_45 rfl (lv_at hl 1 rfl) ?_
      refine lv_iconst (v := nI 2) hC.1 hC.2.1 dX0_wantedBy_46 (by decide) ?_
      refine xn_icmp_ne (tgt := 81) hC (by omega) (by omega) dX0_wantedBy_47 (by decide) (fun c3 => ?_) (fun c3 => ?_)
      · refine lv_iload_n hC.1 hC.2.1 dX0_wantedBy_81 rfl (lv_at hl 1 rfl) ?_
        refine lv_iconst (v := nI 3) hC.1 hC.2.1 dX0_wantedBy_82 (by decide) ?_
        refine xn_icmp_eq (tgt := 99) hC (by omega) (by omega) dX0_wantedBy_83 (by decide) (fun c5 => ?_) (fun c5 => ?_)
        · refine lv_aload_n hC.1 hC.2.1 dX0_wantedBy_99 rfl (lv_at hl 2 rfl) ?_
          refine lv_aload_n hC.1 hC.2.1 dX0_wantedBy_100 rfl (lv_at hl 2 rfl) ?_
          refine x_g_right hC hw dX0_wantedBy_101 ?_
          refine lv_iload_n hC.1 hC.2.1 dX0_wantedBy_104 rfl (lv_at hl 3 rfl) ?_
          refine x_ld_rt (i := x) hC hw (by omega) dX0_wantedBy_105 ?_
          refine cx_calli (ci := 0) (rest := []) (x_follow l (x := rt x) (hI1.fol1 hrx) (hI1.fol2 hrx)) hC hml hl.1 hw rfl (cwV 1 hC.2.2.2 (lw_V q144 q146 qs11 q29 q147) rfl rfl rfl (by decide +kernel) ⟨Nat.le_of_ble_eq_true rfl, Nat.le_of_ble_eq_true rfl⟩) rfl rfl rfl rfl (Nat.le_of_ble_eq_true rfl) dX0_wantedBy_106 ⟨Nat.zero_le _, Nat.zero_le _⟩ (fun r u' H locs hp hw => ?_)
          obtain ⟨rfl, rfl⟩ := hp
          obtain ⟨hg10, hgt⟩ := sg_fo_n10 hI1 hrx
          have hg11 := hI1.le10 hgt
          refine lv_istore (lv' := [(4, .int (nI (sg_fo st (va_up lf x (sg_fo st lf (lf x))) (rt x)))), (3, .int (nI (sg_fo st lf (lf x)))), (2, .int (nI (st x))), (0, .ref (ad 0)), (1, .int (nI x))]) hC.1 hC.2.1 dX0_wantedBy_109 hl (by decide) rfl (fun ls hl => ?_)
          refine lv_aload_n hC.1 hC.2.1 dX0_wantedBy_111 rfl (lv_at hl 3 rfl) ?_
          refine x_g_right hC hw dX0_wantedBy_112 ?_
          refine lv_iload_n hC.1 hC.2.1 dX0_wantedBy_115 rfl (lv_at hl 4 rfl) ?_
          refine lv_iload hC.1 hC.2.1 dX0_wantedBy_116 (lv_at hl 0 rfl) ?_
          refine xn_i2s hC (by omega) dX0_wantedBy_118 ?_
          refine x_st_rt (i := x) (v := sg_fo st (va_up lf x (sg_fo st lf (lf x))) (rt x)) hC hw (by omega) (by omega) dX0_wantedBy_119 (fun H locs hw => ?_)
          have hI2 := hI1.setR hx h8 hgt (fun s k h => h.fo hI1)
          refine lv_aload_n hC.1 hC.2.1 dX0_wantedBy_120 rfl (lv_at hl 3 rfl) ?_
          refine x_g_sort hC hw dX0_wantedBy_121 ?_
          refine lv_iload hC.1 hC.2.1 dX0_wantedBy_124 (lv_at hl 0 rfl) ?_
          refine x_ld_st (i := sg_fo st (va_up lf x (sg_fo st lf (lf x))) (rt x)) hC hw (by omega) dX0_wantedBy_126 ?_
          refine lv_bipush (v := nI 9) hC.1 hC.2.1 dX0_wantedBy_127 (by decide) ?_
          refine xn_icmp_ne (tgt := 136) hC (by omega) (by omega) dX0_wantedBy_129 (by decide) (fun c8 => ?_) (fun c8 => ?_)
          · refine lv_iload hC.1 hC.2.1 dX0_wantedBy_136 (lv_at hl 0 rfl) ?_
            exact cx_iret hC hr hk hw ⟨_, _, hI2, rfl, Or.inr ⟨_, rfl, hgt, sg_Wt.mk hI1 hrx c8 (hI1.posR hD hx (by omega))⟩⟩ dX0_wantedBy_138
          · refine lv_iconst (v := (-1)) hC.1 hC.2.1 dX0_wantedBy_132 (by decide) ?_
            refine lv_goto (tgt := 138) hC.1 hC.2.1 dX0_wantedBy_133 (by decide) ?_
            have q9 := c2
            rw [← el1] at q9
            exact cx_iret hC hr hk hw ⟨_, _, hI2, rfl, Or.inl ⟨rfl, Or.inr (Or.inr (Or.inr ⟨by omega, q9, by rw [sg_us]; exact c8⟩))⟩⟩ dX0_wantedBy_138
        · refine lv_iload_n hC.1 hC.2.1 dX0_wantedBy_86 rfl (lv_at hl 1 rfl) ?_
          refine lv_iconst (v := nI 4) hC.1 hC.2.1 dX0_wantedBy_87 (by decide) ?_
          refine xn_icmp_eq (tgt := 99) hC (by omega) (by omega) dX0_wantedBy_88 (by decide) (fun c6 => ?_) (fun c6 => ?_)
          · refine lv_aload_n hC.1 hC.2.1 dX0_wantedBy_99 rfl (lv_at hl 2 rfl) ?_
            refine lv_aload_n hC.1 hC.2.1 dX0_wantedBy_100 rfl (lv_at hl 2 rfl) ?_
            refine x_g_right hC hw dX0_wantedBy_101 ?_
            refine lv_iload_n hC.1 hC.2.1 dX0_wantedBy_104 rfl (lv_at hl 3 rfl) ?_
            refine x_ld_rt (i := x) hC hw (by omega) dX0_wantedBy_105 ?_
            refine cx_calli (ci := 0) (rest := []) (x_follow l (x := rt x) (hI1.fol1 hrx) (hI1.fol2 hrx)) hC hml hl.1 hw rfl (cwV 1 hC.2.2.2 (lw_V q144 q146 qs11 q29 q147) rfl rfl rfl (by decide +kernel) ⟨Nat.le_of_ble_eq_true rfl, Nat.le_of_ble_eq_true rfl⟩) rfl rfl rfl rfl (Nat.le_of_ble_eq_true rfl) dX0_wantedBy_106 ⟨Nat.zero_le _, Nat.zero_le _⟩ (fun r u' H locs hp hw => ?_)
            obtain ⟨rfl, rfl⟩ := hp
            obtain ⟨hg10, hgt⟩ := sg_fo_n10 hI1 hrx
            have hg11 := hI1.le10 hgt
            refine lv_istore (lv' := [(4, .int (nI (sg_fo st (va_up lf x (sg_fo st lf (lf x))) (rt x)))), (3, .int (nI (sg_fo st lf (lf x)))), (2, .int (nI (st x))), (0, .ref (ad 0)), (1, .int (nI x))]) hC.1 hC.2.1 dX0_wantedBy_109 hl (by decide) rfl (fun ls hl => ?_)
            refine lv_aload_n hC.1 hC.2.1 dX0_wantedBy_111 rfl (lv_at hl 3 rfl) ?_
            refine x_g_right hC hw dX0_wantedBy_112 ?_
            refine lv_iload_n hC.1 hC.2.1 dX0_wantedBy_115 rfl (lv_at hl 4 rfl) ?_
            refine lv_iload hC.1 hC.2.1 dX0_wantedBy_116 (lv_at hl 0 rfl) ?_
            refine xn_i2s hC (by omega) dX0_wantedBy_118 ?_
            refine x_st_rt (i := x) (v := sg_fo st (va_up lf x (sg_fo st lf (lf x))) (rt x)) hC hw (by omega) (by omega) dX0_wantedBy_119 (fun H locs hw => ?_)
            have hI2 := hI1.setR hx h8 hgt (fun s k h => h.fo hI1)
            refine lv_aload_n hC.1 hC.2.1 dX0_wantedBy_120 rfl (lv_at hl 3 rfl) ?_
            refine x_g_sort hC hw dX0_wantedBy_121 ?_
            refine lv_iload hC.1 hC.2.1 dX0_wantedBy_124 (lv_at hl 0 rfl) ?_
            refine x_ld_st (i := sg_fo st (va_up lf x (sg_fo st lf (lf x))) (rt x)) hC hw (by omega) dX0_wantedBy_126 ?_
            refine lv_bipush (v := nI 9) hC.1 hC.2.1 dX0_wantedBy_127 (by decide) ?_
            refine xn_icmp_ne (tgt := 136) hC (by omega) (by omega) dX0_wantedBy_129 (by decide) (fun c8 => ?_) (fun c8 => ?_)
            · refine lv_iload hC.1 hC.2.1 dX0_wantedBy_136 (lv_at hl 0 rfl) ?_
              exact cx_iret hC hr hk hw ⟨_, _, hI2, rfl, Or.inr ⟨_, rfl, hgt, sg_Wt.mk hI1 hrx c8 (hI1.posR hD hx (by omega))⟩⟩ dX0_wantedBy_138
            · refine lv_iconst (v := (-1)) hC.1 hC.2.1 dX0_wantedBy_132 (by decide) ?_
              refine lv_goto (tgt := 138) hC.1 hC.2.1 dX0_wantedBy_133 (by decide) ?_
              have q9 := c2
              rw [← el1] at q9
              exact cx_iret hC hr hk hw ⟨_, _, hI2, rfl, Or.inl ⟨rfl, Or.inr (Or.inr (Or.inr ⟨by omega, q9, by rw [sg_us]; exact c8⟩))⟩⟩ dX0_wantedBy_138
          · refine lv_iload_n hC.1 hC.2.1 dX0_wantedBy_91 rfl (lv_at hl 1 rfl) ?_
            refine lv_bipush (v := nI 8) hC.1 hC.2.1 dX0_wantedBy_92 (by decide) ?_
            refine xn_icmp_eq (tgt := 99) hC (by omega) (by omega) dX0_wantedBy_94 (by decide) (fun c7 => ?_) (fun c7 => ?_)
            · refine lv_aload_n hC.1 hC.2.1 dX0_wantedBy_99 rfl (lv_at hl 2 rfl) ?_
              refine lv_aload_n hC.1 hC.2.1 dX0_wantedBy_100 rfl (lv_at hl 2 rfl) ?_
              refine x_g_right hC hw dX0_wantedBy_101 ?_
              refine lv_iload_n hC.1 hC.2.1 dX0_wantedBy_104 rfl (lv_at hl 3 rfl) ?_
              refine x_ld_rt (i := x) hC hw (by omega) dX0_wantedBy_105 ?_
              refine cx_calli (ci := 0) (rest := []) (x_follow l (x := rt x) (hI1.fol1 hrx) (hI1.fol2 hrx)) hC hml hl.1 hw rfl (cwV 1 hC.2.2.2 (lw_V q144 q146 qs11 q29 q147) rfl rfl rfl (by decide +kernel) ⟨Nat.le_of_ble_eq_true rfl, Nat.le_of_ble_eq_true rfl⟩) rfl rfl rfl rfl (Nat.le_of_ble_eq_true rfl) dX0_wantedBy_106 ⟨Nat.zero_le _, Nat.zero_le _⟩ (fun r u' H locs hp hw => ?_)
              obtain ⟨rfl, rfl⟩ := hp
              obtain ⟨hg10, hgt⟩ := sg_fo_n10 hI1 hrx
              have hg11 := hI1.le10 hgt
              refine lv_istore (lv' := [(4, .int (nI (sg_fo st (va_up lf x (sg_fo st lf (lf x))) (rt x)))), (3, .int (nI (sg_fo st lf (lf x)))), (2, .int (nI (st x))), (0, .ref (ad 0)), (1, .int (nI x))]) hC.1 hC.2.1 dX0_wantedBy_109 hl (by decide) rfl (fun ls hl => ?_)
              refine lv_aload_n hC.1 hC.2.1 dX0_wantedBy_111 rfl (lv_at hl 3 rfl) ?_
              refine x_g_right hC hw dX0_wantedBy_112 ?_
              refine lv_iload_n hC.1 hC.2.1 dX0_wantedBy_115 rfl (lv_at hl 4 rfl) ?_
              refine lv_iload hC.1 hC.2.1 dX0_wantedBy_116 (lv_at hl 0 rfl) ?_
              refine xn_i2s hC (by omega) dX0_wantedBy_118 ?_
              refine x_st_rt (i := x) (v := sg_fo st (va_up lf x (sg_fo st lf (lf x))) (rt x)) hC hw (by omega) (by omega) dX0_wantedBy_119 (fun H locs hw => ?_)
              have hI2 := hI1.setR hx h8 hgt (fun s k h => h.fo hI1)
              refine lv_aload_n hC.1 hC.2.1 dX0_wantedBy_120 rfl (lv_at hl 3 rfl) ?_
              refine x_g_sort hC hw dX0_wantedBy_121 ?_
              refine lv_iload hC.1 hC.2.1 dX0_wantedBy_124 (lv_at hl 0 rfl) ?_
              refine x_ld_st (i := sg_fo st (va_up lf x (sg_fo st lf (lf x))) (rt x)) hC hw (by omega) dX0_wantedBy_126 ?_
              refine lv_bipush (v := nI 9) hC.1 hC.2.1 dX0_wantedBy_127 (by decide) ?_
              refine xn_icmp_ne (tgt := 136) hC (by omega) (by omega) dX0_wantedBy_129 (by decide) (fun c8 => ?_) (fun c8 => ?_)
              · refine lv_iload hC.1 hC.2.1 dX0_wantedBy_136 (lv_at hl 0 rfl) ?_
                exact cx_iret hC hr hk hw ⟨_, _, hI2, rfl, Or.inr ⟨_, rfl, hgt, sg_Wt.mk hI1 hrx c8 (hI1.posR hD hx (by omega))⟩⟩ dX0_wantedBy_138
              · refine lv_iconst (v := (-1)) hC.1 hC.2.1 dX0_wantedBy_132 (by decide) ?_
                refine lv_goto (tgt := 138) hC.1 hC.2.1 dX0_wantedBy_133 (by decide) ?_
                have q9 := c2
                rw [← el1] at q9
                exact cx_iret hC hr hk hw ⟨_, _, hI2, rfl, Or.inl ⟨rfl, Or.inr (Or.inr (Or.inr ⟨by omega, q9, by rw [sg_us]; exact c8⟩))⟩⟩ dX0_wantedBy_138
            · refine lv_iconst (v := (-1)) hC.1 hC.2.1 dX0_wantedBy_97 (by decide) ?_
              have q9 := c2
              rw [← el1] at q9
              exact cx_iret hC hr hk hw ⟨_, rt, hI1, rfl, Or.inl ⟨rfl, Or.inr (Or.inr (Or.inl ⟨by omega, q9⟩))⟩⟩ dX0_wantedBy_98
      · refine lv_aload_n hC.1 hC.2.1 dX0_wantedBy_50 rfl (lv_at hl 2 rfl) ?_
        refine lv_aload_n hC.1 hC.2.1 dX0_wantedBy_51 rfl (lv_at hl 2 rfl) ?_
        refine x_g_left hC hw dX0_wantedBy_52 ?_
        have hll := (hI1.rng hft).2.2.1
        refine lv_iload_n hC.1 hC.2.1 dX0_wantedBy_55 rfl (lv_at hl 0 rfl) ?_
        refine x_ld_lf (i := sg_fo st lf (lf x)) hC hw (by omega) dX0_wantedBy_56 ?_
        refine cx_calli (ci := 0) (rest := []) (x_follow l (x := (va_up lf x (sg_fo st lf (lf x))) (sg_fo st lf (lf x))) (hI1.fol1 hll) (hI1.fol2 hll)) hC hml hl.1 hw rfl (cwV 1 hC.2.2.2 (lw_V q144 q146 qs11 q29 q147) rfl rfl rfl (by decide +kernel) ⟨Nat.le_of_ble_eq_true rfl, Nat.le_of_ble_eq_true rfl⟩) rfl rfl rfl rfl (Nat.le_of_ble_eq_true rfl) dX0_wantedBy_57 ⟨Nat.zero_le _, Nat.zero_le _⟩ (fun r u' H locs hp hw => ?_)
        obtain ⟨rfl, rfl⟩ := hp
        obtain ⟨hg10, hgt⟩ := sg_fo_n10 hI1 hll
        have hg11 := hI1.le10 hgt
        refine lv_istore (lv' := [(4, .int (nI (sg_fo st (va_up lf x (sg_fo st lf (lf x))) ((va_up lf x (sg_fo st lf (lf x))) (sg_fo st lf (lf x)))))), (3, .int (nI (sg_fo st lf (lf x)))), (2, .int (nI (st x))), (0, .ref (ad 0)), (1, .int (nI x))]) hC.1 hC.2.1 dX0_wantedBy_60 hl (by decide) rfl (fun ls hl => ?_)
        refine lv_aload_n hC.1 hC.2.1 dX0_wantedBy_62 rfl (lv_at hl 3 rfl) ?_
        refine x_g_sort hC hw dX0_wantedBy_63 ?_
        refine lv_iload hC.1 hC.2.1 dX0_wantedBy_66 (lv_at hl 0 rfl) ?_
        refine x_ld_st (i := sg_fo st (va_up lf x (sg_fo st lf (lf x))) ((va_up lf x (sg_fo st lf (lf x))) (sg_fo st lf (lf x)))) hC hw (by omega) dX0_wantedBy_68 ?_
        refine lv_bipush (v := nI 9) hC.1 hC.2.1 dX0_wantedBy_69 (by decide) ?_
        refine xn_icmp_ne (tgt := 78) hC (by omega) (by omega) dX0_wantedBy_71 (by decide) (fun c4 => ?_) (fun c4 => ?_)
        · refine lv_iload hC.1 hC.2.1 dX0_wantedBy_78 (lv_at hl 0 rfl) ?_
          have q9 := c2
          rw [← el1] at q9
          have q8 := hI1.posT hx c3 q9
          rw [el1] at q8
          exact cx_iret hC hr hk hw ⟨_, rt, hI1, rfl, Or.inr ⟨_, rfl, hgt, sg_Wt.mk hI1 hll c4 q8⟩⟩ dX0_wantedBy_80
        · refine lv_iconst (v := (-1)) hC.1 hC.2.1 dX0_wantedBy_74 (by decide) ?_
          refine lv_goto (tgt := 80) hC.1 hC.2.1 dX0_wantedBy_75 (by decide) ?_
          have q9 := c2
          rw [← el1] at q9
          exact cx_iret hC hr hk hw ⟨_, rt, hI1, rfl, Or.inl ⟨rfl, Or.inr (Or.inl ⟨c3, q9, by rw [el1]; exact c4⟩)⟩⟩ dX0_wantedBy_80
    · refine lv_iload_n hC.1 hC.2.1 dX0_wantedBy_43 rfl (lv_at hl 0 rfl) ?_
      exact cx_iret hC hr hk hw ⟨_, rt, hI1, rfl, Or.inr ⟨_, rfl, hft, sg_Wt.mk hI hlx c2 (hI.posL hD hx h8 c1)⟩⟩ dX0_wantedBy_44
  · refine lv_iconst (v := (-1)) hC.1 hC.2.1 dX0_wantedBy_11 (by decide) ?_
    exact cx_iret hC hr hk hw ⟨lf, rt, hI, rfl, Or.inl ⟨rfl, Or.inl c1⟩⟩ dX0_wantedBy_12
set_option maxHeartbeats 4000000 in
set_option maxRecDepth 100000 in
/-- a computation becomes a cell, or a link -/
theorem x_finish (l : Launch) {kd : Nat → Nat} {da : Nat → Int32} {db : Nat → Int32} {bt : Nat} {ba : Nat} {tp : Nat} {st : Nat → Nat} {nu : Nat → Int32} {sp : Nat → Int32} {lf : Nat → Nat} {rt : Nat → Nat} {bz : Nat → Nat} {mv : Nat → Int32} {ro : Nat → Nat} {sk : Nat → Nat} {hh : Nat} {nm : Nat → Nat × Nat} {x : Nat} (hD : sg_Ok (kd, da, db)) (hI : sg_Inv (kd, da, db) nm st nu sp lf rt tp) (hx : x < tp) (h8 : st x ≤ 8) (hrd : sg_Rd st lf rt x) (hi : (nm x).2 ≤ 21) : cx_Mv l yX0_finish cX0_finish 7 ({ frames := 2, cells := 0, slots := 0, locals := 53 }) xW xT [.int (nI x)] (fun u => u = (kd, da, db, bt, ba, tp, st, nu, sp, lf, rt, bz, mv, ro, sk, hh)) (fun _ u' => ∃ tp' st' nu' sp' lf' rt' bz', u' = (kd, da, db, bt, ba, tp', st', nu', sp', lf', rt', bz', mv, ro, sk, hh) ∧ sg_Fx (kd, da, db) nm st tp bz x st' nu' sp' lf' rt' tp' bz') := by
  refine cx_Mv.of (by decide) (fun _ => Nat.le_of_ble_eq_true rfl) ?_
  intro p e s m below meth c Dg ad ct A u ls hu hC hml hr hk hw hl
  subst hu
  have hC : cx_C p m c cX0_finish s _ RX0 := hC
  have hl : lv_has ls 7 [(0, .ref (ad 0)), (1, .int (nI x))] := hl
  have ht := hI.top
  obtain ⟨-, -, hlx, hrx⟩ := hI.rng hx
  have hll := (hI.rng hlx).2.2.1
  have hlr := (hI.rng hrx).2.2.1
  have hsu := (hI.su hx h8).2.le
  refine lv_aload_n hC.1 hC.2.1 dX0_finish_0 rfl (lv_at hl 0 rfl) ?_
  refine x_g_sort hC hw dX0_finish_1 ?_
  refine lv_iload_n hC.1 hC.2.1 dX0_finish_4 rfl (lv_at hl 1 rfl) ?_
  refine x_ld_st (i := x) hC hw (by omega) dX0_finish_5 ?_
  refine lv_istore_n (lv' := [(2, .int (nI (st x))), (0, .ref (ad 0)), (1, .int (nI x))]) hC.1 hC.2.1 dX0_finish_6 rfl hl (by decide) rfl (fun ls hl => ?_)
  refine lv_aload_n hC.1 hC.2.1 dX0_finish_7 rfl (lv_at hl 1 rfl) ?_
  refine x_g_busy hC hw dX0_finish_8 ?_
  refine lv_iload_n hC.1 hC.2.1 dX0_finish_11 rfl (lv_at hl 2 rfl) ?_
  refine lv_iconst (v := nI 0) hC.1 hC.2.1 dX0_finish_12 (by decide) ?_
  refine x_st_bz (i := x) (v := 0) hC hw (by omega) (by omega) dX0_finish_13 (fun H locs hw => ?_)
  refine lv_iload_n hC.1 hC.2.1 dX0_finish_14 rfl (lv_at hl 0 rfl) ?_
  refine lv_iconst (v := nI 2) hC.1 hC.2.1 dX0_finish_15 (by decide) ?_
  refine xn_icmp_ne (tgt := 50) hC (by omega) (by omega) dX0_finish_16 (by decide) (fun c1 => ?_) (fun c1 => ?_)
  · refine lv_aload_n hC.1 hC.2.1 dX0_finish_50 rfl (lv_at hl 1 rfl) ?_
    refine x_g_number hC hw dX0_finish_51 ?_
    refine lv_iload_n hC.1 hC.2.1 dX0_finish_54 rfl (lv_at hl 2 rfl) ?_
    refine x_ld_nu (i := x) hC hw (by omega) dX0_finish_55 ?_
    refine lv_istore_n (lv' := [(3, .int (nu x)), (2, .int (nI (st x))), (0, .ref (ad 0)), (1, .int (nI x))]) hC.1 hC.2.1 dX0_finish_56 rfl hl (by decide) rfl (fun ls hl => ?_)
    refine lv_iconst (v := nI 0) hC.1 hC.2.1 dX0_finish_57 (by decide) ?_
    refine lv_istore (lv' := [(4, .int (nI 0)), (3, .int (nu x)), (2, .int (nI (st x))), (0, .ref (ad 0)), (1, .int (nI x))]) hC.1 hC.2.1 dX0_finish_58 hl (by decide) rfl (fun ls hl => ?_)
    refine lv_aload_n hC.1 hC.2.1 dX0_finish_60 rfl (lv_at hl 3 rfl) ?_
    refine x_g_left hC hw dX0_finish_61 ?_
    refine lv_iload_n hC.1 hC.2.1 dX0_finish_64 rfl (lv_at hl 4 rfl) ?_
    refine x_ld_lf (i := x) hC hw (by omega) dX0_finish_65 ?_
    refine lv_istore (lv' := [(5, .int (nI (lf x))), (4, .int (nI 0)), (3, .int (nu x)), (2, .int (nI (st x))), (0, .ref (ad 0)), (1, .int (nI x))]) hC.1 hC.2.1 dX0_finish_66 hl (by decide) rfl (fun ls hl => ?_)
    refine lv_iload_n hC.1 hC.2.1 dX0_finish_68 rfl (lv_at hl 3 rfl) ?_
    refine xn_if_ne (tgt := 103) hC (by omega) dX0_finish_69 (by decide) (fun c2 => ?_) (fun c2 => ?_)
    · refine lv_iload_n hC.1 hC.2.1 dX0_finish_103 rfl (lv_at hl 3 rfl) ?_
      refine lv_iconst (v := nI 5) hC.1 hC.2.1 dX0_finish_104 (by decide) ?_
      refine xn_icmp_ne (tgt := 148) hC (by omega) (by omega) dX0_finish_105 (by decide) (fun c3 => ?_) (fun c3 => ?_)
      · refine lv_iload_n hC.1 hC.2.1 dX0_finish_148 rfl (lv_at hl 3 rfl) ?_
        refine lv_bipush (v := nI 6) hC.1 hC.2.1 dX0_finish_149 (by decide) ?_
        refine xn_icmp_ne (tgt := 190) hC (by omega) (by omega) dX0_finish_151 (by decide) (fun c4 => ?_) (fun c4 => ?_)
        · refine lv_iload_n hC.1 hC.2.1 dX0_finish_190 rfl (lv_at hl 3 rfl) ?_
          refine lv_bipush (v := nI 7) hC.1 hC.2.1 dX0_finish_191 (by decide) ?_
          refine xn_icmp_ne (tgt := 230) hC (by omega) (by omega) dX0_finish_193 (by decide) (fun c5 => ?_) (fun c5 => ?_)
          · refine lv_aload_n hC.1 hC.2.1 dX0_finish_230 rfl (lv_at hl 4 rfl) ?_
            refine x_g_right hC hw dX0_finish_231 ?_
            refine lv_iload_n hC.1 hC.2.1 dX0_finish_234 rfl (lv_at hl 5 rfl) ?_
            refine x_ld_rt (i := x) hC hw (by omega) dX0_finish_235 ?_
            refine lv_istore (lv' := [(6, .int (nI (rt x))), (5, .int (nI (lf x))), (4, .int (nI 0)), (3, .int (nu x)), (2, .int (nI (st x))), (0, .ref (ad 0)), (1, .int (nI x))]) hC.1 hC.2.1 dX0_finish_236 hl (by decide) rfl (fun ls hl => ?_)
            refine lv_aload_n hC.1 hC.2.1 dX0_finish_238 rfl (lv_at hl 5 rfl) ?_
            refine lv_iload_n hC.1 hC.2.1 dX0_finish_239 rfl (lv_at hl 4 rfl) ?_
            refine lv_aload_n hC.1 hC.2.1 dX0_finish_240 rfl (lv_at hl 5 rfl) ?_
            refine x_g_number hC hw dX0_finish_241 ?_
            refine lv_iload hC.1 hC.2.1 dX0_finish_244 (lv_at hl 1 rfl) ?_
            refine x_ld_nu (i := lf x) hC hw (by omega) dX0_finish_246 ?_
            refine lv_aload_n hC.1 hC.2.1 dX0_finish_247 rfl (lv_at hl 5 rfl) ?_
            refine x_g_number hC hw dX0_finish_248 ?_
            refine lv_iload hC.1 hC.2.1 dX0_finish_251 (lv_at hl 0 rfl) ?_
            refine x_ld_nu (i := rt x) hC hw (by omega) dX0_finish_253 ?_
            refine cx_calli (ci := 0) (rest := []) (x_headOfTwo l (k := st x) (x := nu (lf x)) (y := nu (rt x)) (by omega)) hC hml hl.1 hw rfl (cwV 3 hC.2.2.2 (lw_V q156 q158 qs14 q29 q159) rfl rfl rfl (by decide +kernel) ⟨Nat.le_of_ble_eq_true rfl, Nat.le_of_ble_eq_true rfl⟩) rfl rfl rfl rfl (Nat.le_of_ble_eq_true rfl) dX0_finish_254 ⟨Nat.zero_le _, Nat.zero_le _⟩ (fun r u' H locs hp hw => ?_)
            obtain ⟨rfl, rfl⟩ := hp
            refine lv_istore_n (lv' := [(3, .int (sg_hd (st x) (nu (lf x)) (nu (rt x)))), (6, .int (nI (rt x))), (5, .int (nI (lf x))), (4, .int (nI 0)), (2, .int (nI (st x))), (0, .ref (ad 0)), (1, .int (nI x))]) hC.1 hC.2.1 dX0_finish_257 rfl hl (by decide) rfl (fun ls hl => ?_)
            refine lv_aload_n hC.1 hC.2.1 dX0_finish_258 rfl (lv_at hl 5 rfl) ?_
            refine lv_iload_n hC.1 hC.2.1 dX0_finish_259 rfl (lv_at hl 4 rfl) ?_
            refine lv_iload hC.1 hC.2.1 dX0_finish_260 (lv_at hl 2 rfl) ?_
            refine lv_iload hC.1 hC.2.1 dX0_finish_262 (lv_at hl 1 rfl) ?_
            refine cx_calli (ci := 0) (rest := []) (x_restOfTwo l (k := st x) (x := lf x) (y := rt x) (by omega) (by omega) (by omega) (by omega) (by omega) (by omega)) hC hml hl.1 hw rfl (cwV 3 hC.2.2.2 (lw_V q160 q162 qs15 q29 q163) rfl rfl rfl (by decide +kernel) ⟨Nat.le_of_ble_eq_true rfl, Nat.le_of_ble_eq_true rfl⟩) rfl rfl rfl rfl (Nat.le_of_ble_eq_true rfl) dX0_finish_264 ⟨Nat.zero_le _, Nat.zero_le _⟩ (fun r u' H locs hp hw => ?_)
            obtain ⟨rfl, rfl⟩ := hp
            refine lv_istore (lv' := [(4, .int (nI tp)), (3, .int (sg_hd (st x) (nu (lf x)) (nu (rt x)))), (6, .int (nI (rt x))), (5, .int (nI (lf x))), (2, .int (nI (st x))), (0, .ref (ad 0)), (1, .int (nI x))]) hC.1 hC.2.1 dX0_finish_267 hl (by decide) rfl (fun ls hl => ?_)
            refine lv_aload_n hC.1 hC.2.1 dX0_finish_269 rfl (lv_at hl 5 rfl) ?_
            refine x_g_sort hC hw dX0_finish_270 ?_
            refine lv_iload_n hC.1 hC.2.1 dX0_finish_273 rfl (lv_at hl 6 rfl) ?_
            refine lv_bipush (v := nI 9) hC.1 hC.2.1 dX0_finish_274 (by decide) ?_
            refine x_st_st (i := x) (v := 9) hC hw (by omega) (by omega) dX0_finish_276 (fun H locs hw => ?_)
            refine lv_aload_n hC.1 hC.2.1 dX0_finish_277 rfl (lv_at hl 5 rfl) ?_
            refine x_g_number hC hw dX0_finish_278 ?_
            refine lv_iload_n hC.1 hC.2.1 dX0_finish_281 rfl (lv_at hl 6 rfl) ?_
            refine lv_iload_n hC.1 hC.2.1 dX0_finish_282 rfl (lv_at hl 1 rfl) ?_
            refine x_st_nu (i := x) (v := sg_hd (st x) (nu (lf x)) (nu (rt x))) hC hw (by omega) dX0_finish_283 (fun H locs hw => ?_)
            refine lv_aload_n hC.1 hC.2.1 dX0_finish_284 rfl (lv_at hl 5 rfl) ?_
            refine x_g_left hC hw dX0_finish_285 ?_
            refine lv_iload_n hC.1 hC.2.1 dX0_finish_288 rfl (lv_at hl 6 rfl) ?_
            refine lv_iload hC.1 hC.2.1 dX0_finish_289 (lv_at hl 0 rfl) ?_
            refine xn_i2s hC (by omega) dX0_finish_291 ?_
            refine x_st_lf (i := x) (v := tp) hC hw (by omega) (by omega) dX0_finish_292 (fun H locs hw => ?_)
            have h348 : st x = 3 ∨ st x = 4 ∨ st x = 8 := by omega
            have h9 := hrd.left c2
            have hr9 := hrd.right h348
            refine cx_vret hC hr hk hw ⟨_, _, _, _, _, _, _, rfl, ?_⟩ dX0_finish_293
            rcases h348 with e | e | e
            · have h := sg_fin3 (bz := bz) hD hI hx e hi h9 hr9
              rw [e, sg_hd3, sg_rl_n (by decide), sg_rl_n (by decide)]
              exact h
            · have h := sg_fin4 (bz := bz) hD hI hx e hi h9 hr9
              rw [e, sg_hd4, sg_rl_n (by decide), sg_rl_n (by decide)]
              exact h
            · have h := sg_fin8 (bz := bz) hD hI hx e hi h9 hr9
              rw [e, sg_hd8, sg_rl8, sg_rl8]
              exact h
          · refine lv_aload_n hC.1 hC.2.1 dX0_finish_196 rfl (lv_at hl 4 rfl) ?_
            refine x_g_number hC hw dX0_finish_197 ?_
            refine lv_iload hC.1 hC.2.1 dX0_finish_200 (lv_at hl 0 rfl) ?_
            refine x_ld_nu (i := lf x) hC hw (by omega) dX0_finish_202 ?_
            refine lv_istore_n (lv' := [(3, .int (nu (lf x))), (5, .int (nI (lf x))), (4, .int (nI 0)), (2, .int (nI (st x))), (0, .ref (ad 0)), (1, .int (nI x))]) hC.1 hC.2.1 dX0_finish_203 rfl hl (by decide) rfl (fun ls hl => ?_)
            refine lv_aload_n hC.1 hC.2.1 dX0_finish_204 rfl (lv_at hl 4 rfl) ?_
            refine lv_bipush (v := nI 7) hC.1 hC.2.1 dX0_finish_205 (by decide) ?_
            refine lv_iconst (v := nI 0) hC.1 hC.2.1 dX0_finish_207 (by decide) ?_
            refine lv_iconst (v := nI 0) hC.1 hC.2.1 dX0_finish_208 (by decide) ?_
            refine lv_aload_n hC.1 hC.2.1 dX0_finish_209 rfl (lv_at hl 4 rfl) ?_
            refine x_g_right hC hw dX0_finish_210 ?_
            refine lv_iload_n hC.1 hC.2.1 dX0_finish_213 rfl (lv_at hl 5 rfl) ?_
            refine x_ld_rt (i := x) hC hw (by omega) dX0_finish_214 ?_
            refine lv_aload_n hC.1 hC.2.1 dX0_finish_215 rfl (lv_at hl 4 rfl) ?_
            refine x_g_left hC hw dX0_finish_216 ?_
            refine lv_iload hC.1 hC.2.1 dX0_finish_219 (lv_at hl 1 rfl) ?_
            refine x_ld_lf (i := lf x) hC hw (by omega) dX0_finish_221 ?_
            refine cx_calli (ci := 0) (rest := []) (x_allocate l (w := 7) (n := nI 0) (b := nI 0) (a := rt x) (r := lf (lf x)) (by omega) (by omega) (by omega) (by omega)) hC hml hl.1 hw rfl (cwV 5 hC.2.2.2 (lw_V q120 q122 qs5 q29 q123) rfl rfl rfl (by decide +kernel) ⟨Nat.le_of_ble_eq_true rfl, Nat.le_of_ble_eq_true rfl⟩) rfl rfl rfl rfl (Nat.le_of_ble_eq_true rfl) dX0_finish_222 ⟨Nat.zero_le _, Nat.zero_le _⟩ (fun r u' H locs hp hw => ?_)
            obtain ⟨rfl, rfl⟩ := hp
            refine lv_istore (lv' := [(4, .int (nI tp)), (3, .int (nu (lf x))), (5, .int (nI (lf x))), (2, .int (nI (st x))), (0, .ref (ad 0)), (1, .int (nI x))]) hC.1 hC.2.1 dX0_finish_225 hl (by decide) rfl (fun ls hl => ?_)
            refine lv_goto (tgt := 269) hC.1 hC.2.1 dX0_finish_227 (by decide) ?_
            refine lv_aload_n hC.1 hC.2.1 dX0_finish_269 rfl (lv_at hl 4 rfl) ?_
            refine x_g_sort hC hw dX0_finish_270 ?_
            refine lv_iload_n hC.1 hC.2.1 dX0_finish_273 rfl (lv_at hl 5 rfl) ?_
            refine lv_bipush (v := nI 9) hC.1 hC.2.1 dX0_finish_274 (by decide) ?_
            refine x_st_st (i := x) (v := 9) hC hw (by omega) (by omega) dX0_finish_276 (fun H locs hw => ?_)
            refine lv_aload_n hC.1 hC.2.1 dX0_finish_277 rfl (lv_at hl 4 rfl) ?_
            refine x_g_number hC hw dX0_finish_278 ?_
            refine lv_iload_n hC.1 hC.2.1 dX0_finish_281 rfl (lv_at hl 5 rfl) ?_
            refine lv_iload_n hC.1 hC.2.1 dX0_finish_282 rfl (lv_at hl 1 rfl) ?_
            refine x_st_nu (i := x) (v := nu (lf x)) hC hw (by omega) dX0_finish_283 (fun H locs hw => ?_)
            refine lv_aload_n hC.1 hC.2.1 dX0_finish_284 rfl (lv_at hl 4 rfl) ?_
            refine x_g_left hC hw dX0_finish_285 ?_
            refine lv_iload_n hC.1 hC.2.1 dX0_finish_288 rfl (lv_at hl 5 rfl) ?_
            refine lv_iload hC.1 hC.2.1 dX0_finish_289 (lv_at hl 0 rfl) ?_
            refine xn_i2s hC (by omega) dX0_finish_291 ?_
            refine x_st_lf (i := x) (v := tp) hC hw (by omega) (by omega) dX0_finish_292 (fun H locs hw => ?_)
            exact cx_vret hC hr hk hw ⟨_, _, _, _, _, _, _, rfl, sg_fin7 hD hI hx c5 hi (hrd.left c2)⟩ dX0_finish_293
        · refine lv_aload_n hC.1 hC.2.1 dX0_finish_154 rfl (lv_at hl 4 rfl) ?_
          refine x_g_number hC hw dX0_finish_155 ?_
          refine lv_iload_n hC.1 hC.2.1 dX0_finish_158 rfl (lv_at hl 5 rfl) ?_
          refine x_ld_nu (i := x) hC hw (by omega) dX0_finish_159 ?_
          refine lv_aload_n hC.1 hC.2.1 dX0_finish_160 rfl (lv_at hl 4 rfl) ?_
          refine x_g_number hC hw dX0_finish_161 ?_
          refine lv_iload hC.1 hC.2.1 dX0_finish_164 (lv_at hl 0 rfl) ?_
          refine x_ld_nu (i := lf x) hC hw (by omega) dX0_finish_166 ?_
          refine lv_iadd hC.1 hC.2.1 dX0_finish_167 ?_
          refine lv_istore_n (lv' := [(3, .int ((nu x) + (nu (lf x)))), (5, .int (nI (lf x))), (4, .int (nI 0)), (2, .int (nI (st x))), (0, .ref (ad 0)), (1, .int (nI x))]) hC.1 hC.2.1 dX0_finish_168 rfl hl (by decide) rfl (fun ls hl => ?_)
          refine lv_aload_n hC.1 hC.2.1 dX0_finish_169 rfl (lv_at hl 4 rfl) ?_
          refine lv_bipush (v := nI 6) hC.1 hC.2.1 dX0_finish_170 (by decide) ?_
          refine lv_iload_n hC.1 hC.2.1 dX0_finish_172 rfl (lv_at hl 0 rfl) ?_
          refine lv_iconst (v := nI 0) hC.1 hC.2.1 dX0_finish_173 (by decide) ?_
          refine lv_aload_n hC.1 hC.2.1 dX0_finish_174 rfl (lv_at hl 4 rfl) ?_
          refine x_g_left hC hw dX0_finish_175 ?_
          refine lv_iload hC.1 hC.2.1 dX0_finish_178 (lv_at hl 1 rfl) ?_
          refine x_ld_lf (i := lf x) hC hw (by omega) dX0_finish_180 ?_
          refine lv_iconst (v := nI 0) hC.1 hC.2.1 dX0_finish_181 (by decide) ?_
          refine cx_calli (ci := 0) (rest := []) (x_allocate l (w := 6) (n := (nu x) + (nu (lf x))) (b := nI 0) (a := lf (lf x)) (r := 0) (by omega) (by omega) (by omega) (by omega)) hC hml hl.1 hw rfl (cwV 5 hC.2.2.2 (lw_V q120 q122 qs5 q29 q123) rfl rfl rfl (by decide +kernel) ⟨Nat.le_of_ble_eq_true rfl, Nat.le_of_ble_eq_true rfl⟩) rfl rfl rfl rfl (Nat.le_of_ble_eq_true rfl) dX0_finish_182 ⟨Nat.zero_le _, Nat.zero_le _⟩ (fun r u' H locs hp hw => ?_)
          obtain ⟨rfl, rfl⟩ := hp
          refine lv_istore (lv' := [(4, .int (nI tp)), (3, .int ((nu x) + (nu (lf x)))), (5, .int (nI (lf x))), (2, .int (nI (st x))), (0, .ref (ad 0)), (1, .int (nI x))]) hC.1 hC.2.1 dX0_finish_185 hl (by decide) rfl (fun ls hl => ?_)
          refine lv_goto (tgt := 269) hC.1 hC.2.1 dX0_finish_187 (by decide) ?_
          refine lv_aload_n hC.1 hC.2.1 dX0_finish_269 rfl (lv_at hl 4 rfl) ?_
          refine x_g_sort hC hw dX0_finish_270 ?_
          refine lv_iload_n hC.1 hC.2.1 dX0_finish_273 rfl (lv_at hl 5 rfl) ?_
          refine lv_bipush (v := nI 9) hC.1 hC.2.1 dX0_finish_274 (by decide) ?_
          refine x_st_st (i := x) (v := 9) hC hw (by omega) (by omega) dX0_finish_276 (fun H locs hw => ?_)
          refine lv_aload_n hC.1 hC.2.1 dX0_finish_277 rfl (lv_at hl 4 rfl) ?_
          refine x_g_number hC hw dX0_finish_278 ?_
          refine lv_iload_n hC.1 hC.2.1 dX0_finish_281 rfl (lv_at hl 5 rfl) ?_
          refine lv_iload_n hC.1 hC.2.1 dX0_finish_282 rfl (lv_at hl 1 rfl) ?_
          refine x_st_nu (i := x) (v := (nu x) + (nu (lf x))) hC hw (by omega) dX0_finish_283 (fun H locs hw => ?_)
          refine lv_aload_n hC.1 hC.2.1 dX0_finish_284 rfl (lv_at hl 4 rfl) ?_
          refine x_g_left hC hw dX0_finish_285 ?_
          refine lv_iload_n hC.1 hC.2.1 dX0_finish_288 rfl (lv_at hl 5 rfl) ?_
          refine lv_iload hC.1 hC.2.1 dX0_finish_289 (lv_at hl 0 rfl) ?_
          refine xn_i2s hC (by omega) dX0_finish_291 ?_
          refine x_st_lf (i := x) (v := tp) hC hw (by omega) (by omega) dX0_finish_292 (fun H locs hw => ?_)
          exact cx_vret hC hr hk hw ⟨_, _, _, _, _, _, _, rfl, sg_fin6 hD hI hx c4 hi (hrd.left c2)⟩ dX0_finish_293
      · refine lv_aload_n hC.1 hC.2.1 dX0_finish_108 rfl (lv_at hl 4 rfl) ?_
        refine x_g_number hC hw dX0_finish_109 ?_
        refine lv_iload_n hC.1 hC.2.1 dX0_finish_112 rfl (lv_at hl 5 rfl) ?_
        refine x_ld_nu (i := x) hC hw (by omega) dX0_finish_113 ?_
        refine lv_aload_n hC.1 hC.2.1 dX0_finish_114 rfl (lv_at hl 4 rfl) ?_
        refine x_g_number hC hw dX0_finish_115 ?_
        refine lv_iload hC.1 hC.2.1 dX0_finish_118 (lv_at hl 0 rfl) ?_
        refine x_ld_nu (i := lf x) hC hw (by omega) dX0_finish_120 ?_
        refine lv_imul hC.1 hC.2.1 dX0_finish_121 ?_
        refine lv_istore_n (lv' := [(3, .int ((nu x) * (nu (lf x)))), (5, .int (nI (lf x))), (4, .int (nI 0)), (2, .int (nI (st x))), (0, .ref (ad 0)), (1, .int (nI x))]) hC.1 hC.2.1 dX0_finish_122 rfl hl (by decide) rfl (fun ls hl => ?_)
        refine lv_aload_n hC.1 hC.2.1 dX0_finish_123 rfl (lv_at hl 4 rfl) ?_
        refine lv_iconst (v := nI 5) hC.1 hC.2.1 dX0_finish_124 (by decide) ?_
        refine lv_aload_n hC.1 hC.2.1 dX0_finish_125 rfl (lv_at hl 4 rfl) ?_
        refine x_g_number hC hw dX0_finish_126 ?_
        refine lv_iload_n hC.1 hC.2.1 dX0_finish_129 rfl (lv_at hl 5 rfl) ?_
        refine x_ld_nu (i := x) hC hw (by omega) dX0_finish_130 ?_
        refine lv_iconst (v := nI 0) hC.1 hC.2.1 dX0_finish_131 (by decide) ?_
        refine lv_aload_n hC.1 hC.2.1 dX0_finish_132 rfl (lv_at hl 4 rfl) ?_
        refine x_g_left hC hw dX0_finish_133 ?_
        refine lv_iload hC.1 hC.2.1 dX0_finish_136 (lv_at hl 1 rfl) ?_
        refine x_ld_lf (i := lf x) hC hw (by omega) dX0_finish_138 ?_
        refine lv_iconst (v := nI 0) hC.1 hC.2.1 dX0_finish_139 (by decide) ?_
        refine cx_calli (ci := 0) (rest := []) (x_allocate l (w := 5) (n := nu x) (b := nI 0) (a := lf (lf x)) (r := 0) (by omega) (by omega) (by omega) (by omega)) hC hml hl.1 hw rfl (cwV 5 hC.2.2.2 (lw_V q120 q122 qs5 q29 q123) rfl rfl rfl (by decide +kernel) ⟨Nat.le_of_ble_eq_true rfl, Nat.le_of_ble_eq_true rfl⟩) rfl rfl rfl rfl (Nat.le_of_ble_eq_true rfl) dX0_finish_140 ⟨Nat.zero_le _, Nat.zero_le _⟩ (fun r u' H locs hp hw => ?_)
        obtain ⟨rfl, rfl⟩ := hp
        refine lv_istore (lv' := [(4, .int (nI tp)), (3, .int ((nu x) * (nu (lf x)))), (5, .int (nI (lf x))), (2, .int (nI (st x))), (0, .ref (ad 0)), (1, .int (nI x))]) hC.1 hC.2.1 dX0_finish_143 hl (by decide) rfl (fun ls hl => ?_)
        refine lv_goto (tgt := 269) hC.1 hC.2.1 dX0_finish_145 (by decide) ?_
        refine lv_aload_n hC.1 hC.2.1 dX0_finish_269 rfl (lv_at hl 4 rfl) ?_
        refine x_g_sort hC hw dX0_finish_270 ?_
        refine lv_iload_n hC.1 hC.2.1 dX0_finish_273 rfl (lv_at hl 5 rfl) ?_
        refine lv_bipush (v := nI 9) hC.1 hC.2.1 dX0_finish_274 (by decide) ?_
        refine x_st_st (i := x) (v := 9) hC hw (by omega) (by omega) dX0_finish_276 (fun H locs hw => ?_)
        refine lv_aload_n hC.1 hC.2.1 dX0_finish_277 rfl (lv_at hl 4 rfl) ?_
        refine x_g_number hC hw dX0_finish_278 ?_
        refine lv_iload_n hC.1 hC.2.1 dX0_finish_281 rfl (lv_at hl 5 rfl) ?_
        refine lv_iload_n hC.1 hC.2.1 dX0_finish_282 rfl (lv_at hl 1 rfl) ?_
        refine x_st_nu (i := x) (v := (nu x) * (nu (lf x))) hC hw (by omega) dX0_finish_283 (fun H locs hw => ?_)
        refine lv_aload_n hC.1 hC.2.1 dX0_finish_284 rfl (lv_at hl 4 rfl) ?_
        refine x_g_left hC hw dX0_finish_285 ?_
        refine lv_iload_n hC.1 hC.2.1 dX0_finish_288 rfl (lv_at hl 5 rfl) ?_
        refine lv_iload hC.1 hC.2.1 dX0_finish_289 (lv_at hl 0 rfl) ?_
        refine xn_i2s hC (by omega) dX0_finish_291 ?_
        refine x_st_lf (i := x) (v := tp) hC hw (by omega) (by omega) dX0_finish_292 (fun H locs hw => ?_)
        exact cx_vret hC hr hk hw ⟨_, _, _, _, _, _, _, rfl, sg_fin5 hD hI hx c3 hi (hrd.left c2)⟩ dX0_finish_293
    · refine lv_aload_n hC.1 hC.2.1 dX0_finish_72 rfl (lv_at hl 4 rfl) ?_
      refine lv_iconst (v := nI 0) hC.1 hC.2.1 dX0_finish_73 (by decide) ?_
      refine lv_aload_n hC.1 hC.2.1 dX0_finish_74 rfl (lv_at hl 4 rfl) ?_
      refine x_g_number hC hw dX0_finish_75 ?_
      refine lv_iload_n hC.1 hC.2.1 dX0_finish_78 rfl (lv_at hl 5 rfl) ?_
      refine x_ld_nu (i := x) hC hw (by omega) dX0_finish_79 ?_
      refine lv_aload_n hC.1 hC.2.1 dX0_finish_80 rfl (lv_at hl 4 rfl) ?_
      refine x_g_step hC hw dX0_finish_81 ?_
      refine lv_iload_n hC.1 hC.2.1 dX0_finish_84 rfl (lv_at hl 5 rfl) ?_
      refine x_ld_sp (i := x) hC hw (by omega) dX0_finish_85 ?_
      refine lv_iadd hC.1 hC.2.1 dX0_finish_86 ?_
      refine lv_aload_n hC.1 hC.2.1 dX0_finish_87 rfl (lv_at hl 4 rfl) ?_
      refine x_g_step hC hw dX0_finish_88 ?_
      refine lv_iload_n hC.1 hC.2.1 dX0_finish_91 rfl (lv_at hl 5 rfl) ?_
      refine x_ld_sp (i := x) hC hw (by omega) dX0_finish_92 ?_
      refine lv_iconst (v := nI 0) hC.1 hC.2.1 dX0_finish_93 (by decide) ?_
      refine lv_iconst (v := nI 0) hC.1 hC.2.1 dX0_finish_94 (by decide) ?_
      refine cx_calli (ci := 0) (rest := []) (x_allocate l (w := 0) (n := (nu x) + (sp x)) (b := sp x) (a := 0) (r := 0) (by omega) (by omega) (by omega) (by omega)) hC hml hl.1 hw rfl (cwV 5 hC.2.2.2 (lw_V q120 q122 qs5 q29 q123) rfl rfl rfl (by decide +kernel) ⟨Nat.le_of_ble_eq_true rfl, Nat.le_of_ble_eq_true rfl⟩) rfl rfl rfl rfl (Nat.le_of_ble_eq_true rfl) dX0_finish_95 ⟨Nat.zero_le _, Nat.zero_le _⟩ (fun r u' H locs hp hw => ?_)
      obtain ⟨rfl, rfl⟩ := hp
      refine lv_istore (lv' := [(4, .int (nI tp)), (5, .int (nI (lf x))), (3, .int (nu x)), (2, .int (nI (st x))), (0, .ref (ad 0)), (1, .int (nI x))]) hC.1 hC.2.1 dX0_finish_98 hl (by decide) rfl (fun ls hl => ?_)
      refine lv_goto (tgt := 269) hC.1 hC.2.1 dX0_finish_100 (by decide) ?_
      refine lv_aload_n hC.1 hC.2.1 dX0_finish_269 rfl (lv_at hl 4 rfl) ?_
      refine x_g_sort hC hw dX0_finish_270 ?_
      refine lv_iload_n hC.1 hC.2.1 dX0_finish_273 rfl (lv_at hl 5 rfl) ?_
      refine lv_bipush (v := nI 9) hC.1 hC.2.1 dX0_finish_274 (by decide) ?_
      refine x_st_st (i := x) (v := 9) hC hw (by omega) (by omega) dX0_finish_276 (fun H locs hw => ?_)
      refine lv_aload_n hC.1 hC.2.1 dX0_finish_277 rfl (lv_at hl 4 rfl) ?_
      refine x_g_number hC hw dX0_finish_278 ?_
      refine lv_iload_n hC.1 hC.2.1 dX0_finish_281 rfl (lv_at hl 5 rfl) ?_
      refine lv_iload_n hC.1 hC.2.1 dX0_finish_282 rfl (lv_at hl 2 rfl) ?_
      refine x_st_nu (i := x) (v := nu x) hC hw (by omega) dX0_finish_283 (fun H locs hw => ?_)
      refine lv_aload_n hC.1 hC.2.1 dX0_finish_284 rfl (lv_at hl 4 rfl) ?_
      refine x_g_left hC hw dX0_finish_285 ?_
      refine lv_iload_n hC.1 hC.2.1 dX0_finish_288 rfl (lv_at hl 5 rfl) ?_
      refine lv_iload hC.1 hC.2.1 dX0_finish_289 (lv_at hl 0 rfl) ?_
      refine xn_i2s hC (by omega) dX0_finish_291 ?_
      refine x_st_lf (i := x) (v := tp) hC hw (by omega) (by omega) dX0_finish_292 (fun H locs hw => ?_)
      exact cx_vret hC hr hk hw ⟨_, _, _, _, _, _, _, rfl, sg_fin0 hD hI hx c2 hi⟩ dX0_finish_293
  · obtain ⟨d1, d2⟩ := hrd.two c1
    obtain ⟨k1, k2, k3⟩ := hI.lkf hx c1 d1 d2
    refine lv_aload_n hC.1 hC.2.1 dX0_finish_19 rfl (lv_at hl 1 rfl) ?_
    refine x_g_sort hC hw dX0_finish_20 ?_
    refine lv_iload_n hC.1 hC.2.1 dX0_finish_23 rfl (lv_at hl 2 rfl) ?_
    refine lv_bipush (v := nI 10) hC.1 hC.2.1 dX0_finish_24 (by decide) ?_
    refine x_st_st (i := x) (v := 10) hC hw (by omega) (by omega) dX0_finish_26 (fun H locs hw => ?_)
    refine lv_aload_n hC.1 hC.2.1 dX0_finish_27 rfl (lv_at hl 1 rfl) ?_
    refine x_g_left hC hw dX0_finish_28 ?_
    refine lv_iload_n hC.1 hC.2.1 dX0_finish_31 rfl (lv_at hl 2 rfl) ?_
    refine lv_aload_n hC.1 hC.2.1 dX0_finish_32 rfl (lv_at hl 1 rfl) ?_
    refine lv_aload_n hC.1 hC.2.1 dX0_finish_33 rfl (lv_at hl 1 rfl) ?_
    refine x_g_left hC hw dX0_finish_34 ?_
    refine lv_aload_n hC.1 hC.2.1 dX0_finish_37 rfl (lv_at hl 1 rfl) ?_
    refine x_g_left hC hw dX0_finish_38 ?_
    refine lv_iload_n hC.1 hC.2.1 dX0_finish_41 rfl (lv_at hl 2 rfl) ?_
    refine x_ld_lf (i := x) hC hw (by omega) dX0_finish_42 ?_
    refine x_ld_lf (i := lf x) hC hw (by omega) dX0_finish_43 ?_
    refine cx_calli (ci := 0) (rest := [.int (nI x), .ref (ad 7)]) (x_follow l (x := lf (lf x)) k1 k2) hC hml hl.1 hw rfl (cwV 1 hC.2.2.2 (lw_V q144 q146 qs11 q29 q147) rfl rfl rfl (by decide +kernel) ⟨Nat.le_of_ble_eq_true rfl, Nat.le_of_ble_eq_true rfl⟩) rfl rfl rfl rfl (Nat.le_of_ble_eq_true rfl) dX0_finish_44 ⟨Nat.zero_le _, Nat.zero_le _⟩ (fun r u' H locs hp hw => ?_)
    obtain ⟨rfl, rfl⟩ := hp
    refine xn_i2s hC (by omega) dX0_finish_47 ?_
    refine x_st_lf (i := x) (v := sg_fo (va_up st x 10) lf (lf (lf x))) hC hw (by omega) (by omega) dX0_finish_48 (fun H locs hw => ?_)
    exact cx_vret hC hr hk hw ⟨_, _, _, _, _, _, _, rfl, sg_fin2 hI hx c1 d1 d2⟩ dX0_finish_49
end
section

/-! SelectorGc: force -/
/-- the answer r of a node asked for: a cell of place k of s, or -1 if there is none ever -/
def sg_An (D : sg_D) (nm : Nat → Nat × Nat) (st : Nat → Nat) (tp s k : Nat) (r : Int32) : Prop := (∃ c, r = nI c ∧ st c = 9 ∧ sg_Rep D nm st tp c s k) ∨ (r = -1 ∧ ∀ n, sg_Tb D n s k = none)
theorem sg_upself {α : Type} (f : Nat → α) (k : Nat) : va_up f k (f k) = f := by
  funext j
  by_cases e : j = k
  · rw [e, sg_us]
  · rw [sg_un e]
theorem sg_Lp.bzu {D : sg_D} {nm : Nat → Nat × Nat} {st : Nat → Nat} {nu sp : Nat → Int32} {lf rt : Nat → Nat} {tp : Nat} {bz sk : Nat → Nat} {h s k x w : Nat} (L : sg_Lp D nm st nu sp lf rt tp bz sk h s k) (hw : w < tp) : va_up bz x 1 w ≤ 1 := by
  by_cases e : w = x
  · rw [e, sg_us]
    exact Nat.le_refl _
  · rw [sg_un e]
    obtain ⟨-, -, -, -, a4, -⟩ := L
    rcases a4 w hw with q | ⟨q, -⟩ <;> omega
theorem sg_Lp.sklt {D : sg_D} {nm : Nat → Nat × Nat} {st : Nat → Nat} {nu sp : Nat → Int32} {lf rt : Nat → Nat} {tp : Nat} {bz sk : Nat → Nat} {h s k : Nat} (L : sg_Lp D nm st nu sp lf rt tp bz sk h s k) : ∀ q, q < h → sk q < tp := L.2.1
set_option maxHeartbeats 4000000 in
set_option maxRecDepth 100000 in
/-- a node is computed until it is a cell -/
theorem x_force (l : Launch) {kd : Nat → Nat} {da : Nat → Int32} {db : Nat → Int32} {bt : Nat} {ba : Nat} {tp : Nat} {st : Nat → Nat} {nu : Nat → Int32} {sp : Nat → Int32} {lf : Nat → Nat} {rt : Nat → Nat} {bz : Nat → Nat} {mv : Nat → Int32} {ro : Nat → Nat} {sk : Nat → Nat} {hh : Nat} {nm : Nat → Nat × Nat} {x sq kq : Nat} (hD : sg_Ok (kd, da, db)) (hI : sg_Inv (kd, da, db) nm st nu sp lf rt tp) (hb : ∀ y, y < tp → bz y = 0) (hba : ba = 0) (hkq : kq ≤ 15) (hx : sg_Rep (kd, da, db) nm st tp x sq kq) : cx_Mi l yX0_force cX0_force 5 (some .int) ({ frames := 3, cells := 0, slots := 0, locals := 79 }) xW xT [.int (nI x)] (fun u => u = (kd, da, db, bt, ba, tp, st, nu, sp, lf, rt, bz, mv, ro, sk, hh)) (fun _ r' u' => ∃ nm' tp' st' nu' sp' lf' rt' bz' sk' hh', u' = (kd, da, db, bt, ba, tp', st', nu', sp', lf', rt', bz', mv, ro, sk', hh') ∧ sg_Inv (kd, da, db) nm' st' nu' sp' lf' rt' tp' ∧ (∀ y, y < tp' → bz' y = 0) ∧ sg_An (kd, da, db) nm' st' tp' sq kq r') := by
  refine cx_Mi.of (by decide) (fun _ => Nat.le_of_ble_eq_true rfl) ?_
  intro p e s m below meth c Dg ad ct A u ls hu hC hml hr hk hw hl
  subst hu
  have hC : cx_C p m c cX0_force s _ RX0 := hC
  have hl : lv_has ls 5 [(0, .ref (ad 0)), (1, .int (nI x))] := hl
  have ht := hI.top
  have hxt := hx.1
  have loop : ∀ (n : Nat) (nm : Nat → Nat × Nat) (tp : Nat) (st : Nat → Nat) (nu sp : Nat → Int32) (lf rt bz sk : Nat → Nat) (hh : Nat) (r : Int32), sg_Lp (kd, da, db) nm st nu sp lf rt tp bz sk hh sq kq → sg_mu st tp sk hh < n → (hh = 0 → ∃ c0, r = nI c0 ∧ st c0 = 9 ∧ sg_Rep (kd, da, db) nm st tp c0 sq kq) → hh ≤ 6 → ∀ (H : Heap) (locs : List Loc) (ls : Array Slot), cx_W Dg (xT ct) A s s.heap H locs (xW ad ct (kd, da, db, bt, ba, tp, st, nu, sp, lf, rt, bz, mv, ro, sk, hh)) → lv_has ls 5 [(2, .int r), (1, .int (nI x)), (0, .ref (ad 0))] → W p l e ({ frames := 3, cells := 0, slots := 0, locals := 79 }) s m ([.ref (ad 0), .int (nI x)] : List Value).toArray below meth c H locs 0 0 (MQ below (va_Qi (fun r' u' => ∃ nm' tp' st' nu' sp' lf' rt' bz' sk' hh', u' = (kd, da, db, bt, ba, tp', st', nu', sp', lf', rt', bz', mv, ro, sk', hh') ∧ sg_Inv (kd, da, db) nm' st' nu' sp' lf' rt' tp' ∧ (∀ y, y < tp' → bz' y = 0) ∧ sg_An (kd, da, db) nm' st' tp' sq kq r') (cx_B Dg (xT ct) (xW ad ct) A) A) ([.ref (ad 0), .int (nI x)] : List Value).toArray s 0 0 A) (F0 m 12 ls []) := by
    intro n
    induction n with
    | zero =>
      intro nm tp st nu sp lf rt bz sk hh r L hmu hres h6
      exact absurd hmu (by omega)
    | succ n ih =>
      intro nm tp st nu sp lf rt bz sk hh r L hmu hres h6 H locs ls hw hl
      refine lv_aload_n hC.1 hC.2.1 dX0_force_12 rfl (lv_at hl 2 rfl) ?_
      refine x_g_stackTop hC hw dX0_force_13 ?_
      refine xn_if_le (tgt := 145) hC (by omega) dX0_force_16 (by decide) (fun c1 => ?_) (fun c1 => ?_)
      · refine lv_iload_n hC.1 hC.2.1 dX0_force_145 rfl (lv_at hl 0 rfl) ?_
        have h0 : hh = 0 := by omega
        subst h0
        obtain ⟨c0, q1, q2, q3⟩ := hres rfl
        exact cx_iret hC hr hk hw ⟨nm, tp, st, nu, sp, lf, rt, bz, sk, 0, rfl, L.inv, L.done, Or.inl ⟨c0, q1, q2, q3⟩⟩ dX0_force_146
      · obtain ⟨hq, rfl⟩ : ∃ z, hh = z + 1 := ⟨hh - 1, by omega⟩
        have htp := L.inv.top
        have hsk := L.sklt hq (by omega)
        obtain ⟨hf10, hft⟩ := sg_fo_n10 L.inv hsk
        have hf11 := L.inv.le10 hft
        refine lv_aload_n hC.1 hC.2.1 dX0_force_19 rfl (lv_at hl 2 rfl) ?_
        refine x_g_top hC hw dX0_force_20 ?_
        refine lv_aload_n hC.1 hC.2.1 dX0_force_23 rfl (lv_at hl 2 rfl) ?_
        refine x_g_base hC hw dX0_force_24 ?_
        refine lv_sipush (v := nI 256) hC.1 hC.2.1 dX0_force_27 (by decide) ?_
        refine xn_iadd (r := ba + 256) hC rfl dX0_force_30 ?_
        refine xn_icmp_ne (tgt := 38) hC (by omega) (by omega) dX0_force_31 (by decide) (fun g1 => ?_) (fun g1 => absurd g1 (by omega))
        refine lv_aload_n hC.1 hC.2.1 dX0_force_38 rfl (lv_at hl 2 rfl) ?_
        refine lv_aload_n hC.1 hC.2.1 dX0_force_39 rfl (lv_at hl 2 rfl) ?_
        refine x_g_stack hC hw dX0_force_40 ?_
        refine lv_aload_n hC.1 hC.2.1 dX0_force_43 rfl (lv_at hl 2 rfl) ?_
        refine x_g_stackTop hC hw dX0_force_44 ?_
        refine lv_iconst (v := nI 1) hC.1 hC.2.1 dX0_force_47 (by decide) ?_
        refine xn_isub (r := hq) hC (by omega) dX0_force_48 ?_
        refine x_ld_sk (i := hq) hC hw (by omega) dX0_force_49 ?_
        refine cx_calli (ci := 0) (rest := []) (x_follow l (x := sk hq) (L.inv.fol1 hsk) (L.inv.fol2 hsk)) hC hml hl.1 hw rfl (cwV 1 hC.2.2.2 (lw_V q144 q146 qs11 q29 q147) rfl rfl rfl (by decide +kernel) ⟨Nat.le_of_ble_eq_true rfl, Nat.le_of_ble_eq_true rfl⟩) rfl rfl rfl rfl (Nat.le_of_ble_eq_true rfl) dX0_force_50 ⟨Nat.zero_le _, Nat.zero_le _⟩ (fun r u' H locs hp hw => ?_)
        obtain ⟨rfl, rfl⟩ := hp
        refine lv_istore_n (lv' := [(3, .int (nI (sg_fo st lf (sk hq)))), (2, .int r), (1, .int (nI x)), (0, .ref (ad 0))]) hC.1 hC.2.1 dX0_force_53 rfl hl (by decide) rfl (fun ls hl => ?_)
        refine lv_aload_n hC.1 hC.2.1 dX0_force_54 rfl (lv_at hl 3 rfl) ?_
        refine x_g_stack hC hw dX0_force_55 ?_
        refine lv_aload_n hC.1 hC.2.1 dX0_force_58 rfl (lv_at hl 3 rfl) ?_
        refine x_g_stackTop hC hw dX0_force_59 ?_
        refine lv_iconst (v := nI 1) hC.1 hC.2.1 dX0_force_62 (by decide) ?_
        refine xn_isub (r := hq) hC (by omega) dX0_force_63 ?_
        refine lv_iload_n hC.1 hC.2.1 dX0_force_64 rfl (lv_at hl 0 rfl) ?_
        refine xn_i2s hC (by omega) dX0_force_65 ?_
        refine x_st_sk (i := hq) (v := sg_fo st lf (sk hq)) hC hw (by omega) (by omega) dX0_force_66 (fun H locs hw => ?_)
        refine lv_aload_n hC.1 hC.2.1 dX0_force_67 rfl (lv_at hl 3 rfl) ?_
        refine x_g_sort hC hw dX0_force_68 ?_
        refine lv_iload_n hC.1 hC.2.1 dX0_force_71 rfl (lv_at hl 0 rfl) ?_
        refine x_ld_st (i := sg_fo st lf (sk hq)) hC hw (by omega) dX0_force_72 ?_
        refine lv_bipush (v := nI 9) hC.1 hC.2.1 dX0_force_73 (by decide) ?_
        refine xn_icmp_ne (tgt := 93) hC (by omega) (by omega) dX0_force_75 (by decide) (fun c2 => ?_) (fun c2 => ?_)
        · obtain ⟨e1, e2, e3, e4⟩ := L.susp c2
          rw [e1] at hl hw
          rw [sg_upself] at hw
          refine lv_aload_n hC.1 hC.2.1 dX0_force_93 rfl (lv_at hl 3 rfl) ?_
          refine x_g_busy hC hw dX0_force_94 ?_
          refine lv_iload_n hC.1 hC.2.1 dX0_force_97 rfl (lv_at hl 0 rfl) ?_
          refine lv_iconst (v := nI 1) hC.1 hC.2.1 dX0_force_98 (by decide) ?_
          refine x_st_bz (i := sk hq) (v := 1) hC hw (by omega) (by omega) dX0_force_99 (fun H locs hw => ?_)
          refine lv_aload_n hC.1 hC.2.1 dX0_force_100 rfl (lv_at hl 3 rfl) ?_
          refine lv_iload_n hC.1 hC.2.1 dX0_force_101 rfl (lv_at hl 0 rfl) ?_
          refine cx_calli (ci := 0) (rest := []) (x_wantedBy l (x := sk hq) hD L.inv e3 e2) hC hml hl.1 hw rfl (cwV 1 hC.2.2.2 (lw_V q148 q150 qs12 q29 q151) rfl rfl rfl (by decide +kernel) ⟨Nat.le_of_ble_eq_true rfl, Nat.le_of_ble_eq_true rfl⟩) rfl rfl rfl rfl (Nat.le_of_ble_eq_true rfl) dX0_force_102 ⟨Nat.zero_le _, Nat.zero_le _⟩ (fun r u' H locs hp hw => ?_)
          obtain ⟨lf', rt', hI', rfl, hp⟩ := hp
          rcases hp with ⟨rfl, hrd⟩ | ⟨w, rfl, hwt, hW⟩
          · refine lv_istore (lv' := [(4, .int (-1)), (3, .int (nI (sk hq))), (2, .int r), (1, .int (nI x)), (0, .ref (ad 0))]) hC.1 hC.2.1 dX0_force_105 hl (by decide) rfl (fun ls hl => ?_)
            refine lv_iload hC.1 hC.2.1 dX0_force_107 (lv_at hl 0 rfl) ?_
            refine lv_if_ge (tgt := 120) hC.1 hC.2.1 dX0_force_109 (by decide) (fun g2 => absurd g2 (by decide)) (fun g2 => ?_)
            refine lv_aload_n hC.1 hC.2.1 dX0_force_112 rfl (lv_at hl 4 rfl) ?_
            refine lv_iload_n hC.1 hC.2.1 dX0_force_113 rfl (lv_at hl 1 rfl) ?_
            refine cx_callv (ci := 0) (rest := []) (x_finish l (x := sk hq) hD hI' e3 e2 hrd e4) hC hml hl.1 hw rfl (cwV 1 hC.2.2.2 (lw_V q152 q154 qs13 q29 q155) rfl rfl rfl (by decide +kernel) ⟨Nat.le_of_ble_eq_true rfl, Nat.le_of_ble_eq_true rfl⟩) rfl rfl rfl rfl (Nat.le_of_ble_eq_true rfl) dX0_force_114 ⟨Nat.zero_le _, Nat.zero_le _⟩ (fun u' H locs hp hw => ?_)
            obtain ⟨tp', st', nu', sp', lf', rt', bz', rfl, nm', hI2, hF⟩ := hp
            refine lv_goto (tgt := 142) hC.1 hC.2.1 dX0_force_117 (by decide) ?_
            refine lv_goto (tgt := 12) hC.1 hC.2.1 dX0_force_142 (by decide) ?_
            obtain ⟨L1, L2⟩ := (L.same hI').finish e2 hI2 hF
            exact ih nm' tp' st' nu' sp' lf' rt' bz' sk (hq + 1) r L1 (by omega) (fun e => absurd e (by omega)) (by omega) H locs ls hw (lv_sub hl [2, 3, 4] rfl)
          · refine lv_istore (lv' := [(4, .int (nI w)), (3, .int (nI (sk hq))), (2, .int r), (1, .int (nI x)), (0, .ref (ad 0))]) hC.1 hC.2.1 dX0_force_105 hl (by decide) rfl (fun ls hl => ?_)
            refine lv_iload hC.1 hC.2.1 dX0_force_107 (lv_at hl 0 rfl) ?_
            refine xn_if_ge (tgt := 120) hC (by omega) dX0_force_109 (by decide) ?_
            refine lv_aload_n hC.1 hC.2.1 dX0_force_120 rfl (lv_at hl 4 rfl) ?_
            refine x_g_busy hC hw dX0_force_121 ?_
            refine lv_iload hC.1 hC.2.1 dX0_force_124 (lv_at hl 0 rfl) ?_
            have hb1 := L.bzu (x := sk hq) hwt
            refine x_ld_bz (i := w) hC hw (by omega) dX0_force_126 ?_
            refine xn_if_eq (tgt := 136) hC (by omega) dX0_force_127 (by decide) (fun c4 => ?_) (fun c4 => ?_)
            · refine lv_aload_n hC.1 hC.2.1 dX0_force_136 rfl (lv_at hl 4 rfl) ?_
              refine lv_iload hC.1 hC.2.1 dX0_force_137 (lv_at hl 0 rfl) ?_
              refine cx_callv (ci := 0) (rest := []) (x_push l (x := w) (by omega) (by omega)) hC hml hl.1 hw rfl (cwV 1 hC.2.2.2 (lw_V q128 q130 qs7 q29 q131) rfl rfl rfl (by decide +kernel) ⟨Nat.le_of_ble_eq_true rfl, Nat.le_of_ble_eq_true rfl⟩) rfl rfl rfl rfl (Nat.le_of_ble_eq_true rfl) dX0_force_139 ⟨Nat.zero_le _, Nat.zero_le _⟩ (fun u' H locs hp hw => ?_)
              have hp := hp
              subst hp
              refine lv_goto (tgt := 12) hC.1 hC.2.1 dX0_force_142 (by decide) ?_
              obtain ⟨L0, L1, L2⟩ := (L.same hI').push hD hI' e2 hW c4
              exact ih nm tp st nu sp lf' rt' _ _ (hq + 2) r L1 (by omega) (fun e => absurd e (by omega)) (by omega) H locs ls hw (lv_sub hl [2, 3, 4] rfl)
            · refine lv_aload_n hC.1 hC.2.1 dX0_force_130 rfl (lv_at hl 4 rfl) ?_
              refine cx_callv (ci := 0) (rest := []) (x_giveUp l (by omega) (fun q hq' => by have := L.sklt q hq'; omega)) hC hml hl.1 hw rfl (cwV 0 hC.2.2.2 (lw_V q164 q166 qs16 q29 q167) rfl rfl rfl (by decide +kernel) ⟨Nat.le_of_ble_eq_true rfl, Nat.le_of_ble_eq_true rfl⟩) rfl rfl rfl rfl (Nat.le_of_ble_eq_true rfl) dX0_force_131 ⟨Nat.zero_le _, Nat.zero_le _⟩ (fun u' H locs hp hw => ?_)
              obtain ⟨bz', hb1, hb2, rfl⟩ := hp
              refine lv_iconst (v := (-1)) hC.1 hC.2.1 dX0_force_134 (by decide) ?_
              obtain ⟨d1, d2⟩ := (L.same hI').dead hD e2 hW c4
              exact cx_iret hC hr hk hw ⟨nm, tp, st, nu, sp, lf', rt', bz', sk, 0, rfl, hI', d2 bz' hb1 hb2, Or.inr ⟨rfl, d1⟩⟩ dX0_force_135
        · refine lv_iload_n hC.1 hC.2.1 dX0_force_78 rfl (lv_at hl 0 rfl) ?_
          refine lv_istore_n (lv' := [(2, .int (nI (sg_fo st lf (sk hq)))), (3, .int (nI (sg_fo st lf (sk hq)))), (1, .int (nI x)), (0, .ref (ad 0))]) hC.1 hC.2.1 dX0_force_79 rfl hl (by decide) rfl (fun ls hl => ?_)
          refine lv_aload_n hC.1 hC.2.1 dX0_force_80 rfl (lv_at hl 3 rfl) ?_
          refine lv_dup hC.1 hC.2.1 dX0_force_81 rfl ?_
          refine x_g_stackTop hC hw dX0_force_82 ?_
          refine lv_iconst (v := nI 1) hC.1 hC.2.1 dX0_force_85 (by decide) ?_
          refine xn_isub (r := hq) hC (by omega) dX0_force_86 ?_
          refine x_p_stackTop hC hw dX0_force_87 (fun H locs hw => ?_)
          refine lv_goto (tgt := 12) hC.1 hC.2.1 dX0_force_90 (by decide) ?_
          obtain ⟨L1, L2, L3⟩ := L.pop c2
          exact ih nm tp st nu sp lf rt bz _ hq (nI (sg_fo st lf (sk hq))) L1 (by omega) (fun e => ⟨_, rfl, c2, L2 e⟩) (by omega) H locs ls hw (lv_sub hl [0, 2, 3] rfl)
  refine lv_aload_n hC.1 hC.2.1 dX0_force_0 rfl (lv_at hl 0 rfl) ?_
  refine lv_iconst (v := nI 0) hC.1 hC.2.1 dX0_force_1 (by decide) ?_
  refine x_p_stackTop hC hw dX0_force_2 (fun H locs hw => ?_)
  refine lv_aload_n hC.1 hC.2.1 dX0_force_5 rfl (lv_at hl 0 rfl) ?_
  refine lv_iload_n hC.1 hC.2.1 dX0_force_6 rfl (lv_at hl 1 rfl) ?_
  refine cx_callv (ci := 0) (rest := []) (x_push l (x := x) (by omega) (by omega)) hC hml hl.1 hw rfl (cwV 1 hC.2.2.2 (lw_V q128 q130 qs7 q29 q131) rfl rfl rfl (by decide +kernel) ⟨Nat.le_of_ble_eq_true rfl, Nat.le_of_ble_eq_true rfl⟩) rfl rfl rfl rfl (Nat.le_of_ble_eq_true rfl) dX0_force_7 ⟨Nat.zero_le _, Nat.zero_le _⟩ (fun u' H locs hp hw => ?_)
  have hp := hp
  subst hp
  refine lv_iconst (v := (-1)) hC.1 hC.2.1 dX0_force_10 (by decide) ?_
  refine lv_istore_n (lv' := [(2, .int (-1)), (0, .ref (ad 0)), (1, .int (nI x))]) hC.1 hC.2.1 dX0_force_11 rfl hl (by decide) rfl (fun ls hl => ?_)
  exact loop _ nm tp st nu sp lf rt bz (va_up sk 0 x) 1 (-1) (sg_Lp.start hI hb hkq hx) (Nat.lt_succ_self _) (fun e => absurd e (by decide)) (by decide) H locs ls hw (lv_sub hl [0, 2, 1] rfl)
end
section

/-! SelectorGc: build, reach -/
/-- the graph, its roots, nothing busy -/
def sg_Gg (D : sg_D) (nm : Nat → Nat × Nat) (tp : Nat) (st : Nat → Nat) (nu sp : Nat → Int32) (lf rt bz ro : Nat → Nat) : Prop := (∀ s, s < 6 → ro s = s) ∧ sg_Inv D nm st nu sp lf rt tp ∧ ∀ y, y < tp → bz y = 0
/-- between two calls: nothing is built, or a graph for these definitions -/
def xOk (D : sg_D) (bt ba tp : Nat) (st : Nat → Nat) (nu sp : Nat → Int32) (lf rt bz ro : Nat → Nat) : Prop := bt ≤ 1 ∧ (bt = 1 → ba = 0 ∧ ∃ nm, sg_Gg D nm tp st nu sp lf rt bz ro)
def sg_Nx (D : sg_D) (s w : Nat) (n b : Int32) (a r : Nat) : Prop := (sg_kd D s = 1 ∧ w = 9 ∧ n = sg_na D s ∧ a = sg_sb D s ∧ r = 0) ∨ (sg_kd D s = 0 ∧ w = 0 ∧ n = sg_na D s ∧ b = sg_nb D s ∧ a = 0 ∧ r = 0) ∨ (sg_kd D s = 5 ∧ w = 5 ∧ n = sg_na D s ∧ a = sg_sb D s ∧ r = 0) ∨ ((sg_kd D s = 2 ∨ sg_kd D s = 6) ∧ w = sg_kd D s ∧ n = 0 ∧ a = sg_sa D s ∧ r = 0) ∨ ((sg_kd D s = 3 ∨ sg_kd D s = 4 ∨ sg_kd D s = 7 ∨ sg_kd D s = 8) ∧ w = sg_kd D s ∧ n = 0 ∧ a = sg_sa D s ∧ r = sg_sb D s)
def sg_Nw (D : sg_D) (st : Nat → Nat) (nu sp : Nat → Int32) (lf rt bz ro : Nat → Nat) (j : Nat) : Prop := sg_Nx D j (st j) (nu j) (sp j) (lf j) (rt j) ∧ bz j = 0 ∧ ro j = j
theorem sg_Nw_step {D : sg_D} {st : Nat → Nat} {nu sp : Nat → Int32} {lf rt bz ro : Nat → Nat} {i w : Nat} {n b : Int32} {a r : Nat} (h : ∀ j, j < i → sg_Nw D st nu sp lf rt bz ro j) (hn : sg_Nx D i w n b a r) : ∀ j, j < i + 1 → sg_Nw D (va_up st i w) (va_up nu i n) (va_up sp i b) (va_up lf i a) (va_up rt i r) (va_up bz i 0) (va_up ro i i) j := by
  intro j hj
  unfold sg_Nw
  by_cases e : j = i
  · subst e
    rw [sg_us, sg_us, sg_us, sg_us, sg_us, sg_us, sg_us]
    exact ⟨hn, rfl, rfl⟩
  · rw [sg_un e, sg_un e, sg_un e, sg_un e, sg_un e, sg_un e, sg_un e]
    exact h j (by omega)
theorem sg_Nw_done {D : sg_D} (hD : sg_Ok D) {st : Nat → Nat} {nu sp : Nat → Int32} {lf rt bz ro : Nat → Nat} (h : ∀ j, j < 6 → sg_Nw D st nu sp lf rt bz ro j) : sg_Gg D (fun x => (x, 0)) 6 st nu sp lf rt bz ro := ⟨fun s hs => (h s hs).2.2, sg_Inv.start hD (fun _ => rfl) (fun s hs => (h s hs).1), fun y hy => (h y hy).2.1⟩
theorem sg_An.up {D : sg_D} (hD : sg_Ok D) {nm : Nat → Nat × Nat} {st : Nat → Nat} {tp s j k : Nat} (hs : s < 6) (hj : j ≤ k) (h : ∀ n, sg_Tb D n s j = none) : sg_An D nm st tp s k (-1) := Or.inr ⟨rfl, sg_Tb_none hD hs hj h⟩
set_option maxHeartbeats 4000000 in
set_option maxRecDepth 100000 in
/-- a node for each sequence, once -/
theorem x_build (l : Launch) {kd : Nat → Nat} {da : Nat → Int32} {db : Nat → Int32} {bt : Nat} {ba : Nat} {tp : Nat} {st : Nat → Nat} {nu : Nat → Int32} {sp : Nat → Int32} {lf : Nat → Nat} {rt : Nat → Nat} {bz : Nat → Nat} {mv : Nat → Int32} {ro : Nat → Nat} {sk : Nat → Nat} {hh : Nat}  (hD : sg_Ok (kd, da, db)) (hok : xOk (kd, da, db) bt ba tp st nu sp lf rt bz ro) : cx_Mv l yX0_build cX0_build 6 ({ frames := 1, cells := 0, slots := 0, locals := 26 }) xW xT [] (fun u => u = (kd, da, db, bt, ba, tp, st, nu, sp, lf, rt, bz, mv, ro, sk, hh)) (fun _ u' => ∃ nm' tp' st' nu' sp' lf' rt' bz' ro', u' = (kd, da, db, 1, 0, tp', st', nu', sp', lf', rt', bz', mv, ro', sk, hh) ∧ sg_Gg (kd, da, db) nm' tp' st' nu' sp' lf' rt' bz' ro') := by
  refine cx_Mv.of (by decide) (fun _ => Nat.le_of_ble_eq_true rfl) ?_
  intro p e s m below meth c Dg ad ct A u ls hu hC hml hr hk hw hl
  subst hu
  have hC : cx_C p m c cX0_build s _ RX0 := hC
  have hl : lv_has ls 6 [(0, .ref (ad 0))] := hl
  have loop : ∀ (n : Nat) (i : Nat) (st : Nat → Nat) (nu sp : Nat → Int32) (lf rt bz ro : Nat → Nat), i ≤ 6 → 7 ≤ i + n → (∀ j, j < i → sg_Nw (kd, da, db) st nu sp lf rt bz ro j) → ∀ (H : Heap) (locs : List Loc) (ls : Array Slot), cx_W Dg (xT ct) A s s.heap H locs (xW ad ct (kd, da, db, 1, 0, i, st, nu, sp, lf, rt, bz, mv, ro, sk, hh)) → lv_has ls 6 [(1, .int (nI i)), (0, .ref (ad 0))] → W p l e ({ frames := 1, cells := 0, slots := 0, locals := 26 }) s m ([.ref (ad 0)] : List Value).toArray below meth c H locs 0 0 (MQ below (va_Qv (fun u' => ∃ nm' tp' st' nu' sp' lf' rt' bz' ro', u' = (kd, da, db, 1, 0, tp', st', nu', sp', lf', rt', bz', mv, ro', sk, hh) ∧ sg_Gg (kd, da, db) nm' tp' st' nu' sp' lf' rt' bz' ro') (cx_B Dg (xT ct) (xW ad ct) A) A) ([.ref (ad 0)] : List Value).toArray s 0 0 A) (F0 m 25 ls []) := by
    intro n
    induction n with
    | zero =>
      intro i st nu sp lf rt bz ro hi hn hN
      exact absurd hn (by omega)
    | succ n ih =>
      intro i st nu sp lf rt bz ro hi hn hN H locs ls hw hl
      refine lv_iload_n hC.1 hC.2.1 dX0_build_25 rfl (lv_at hl 0 rfl) ?_
      refine lv_bipush (v := nI 6) hC.1 hC.2.1 dX0_build_26 (by decide) ?_
      refine xn_icmp_ge (tgt := 151) hC (by omega) (by omega) dX0_build_28 (by decide) (fun c1 => ?_) (fun c1 => ?_)
      · have h66 : i = 6 := by omega
        subst h66
        exact cx_vret hC hr hk hw ⟨_, _, _, _, _, _, _, _, _, rfl, sg_Nw_done hD hN⟩ dX0_build_151
      · have hi6 : i < 6 := by omega
        have hk8 : kd i ≤ 8 := hD.k hi6
        have hkd : sg_kd (kd, da, db) i = kd i := rfl
        refine lv_aload_n hC.1 hC.2.1 dX0_build_31 rfl (lv_at hl 1 rfl) ?_
        refine x_g_definedAs hC hw dX0_build_32 ?_
        refine lv_iload_n hC.1 hC.2.1 dX0_build_35 rfl (lv_at hl 0 rfl) ?_
        refine x_ld_kd (i := i) hC hw (by omega) dX0_build_36 ?_
        refine lv_istore_n (lv' := [(2, .int (nI (kd i))), (1, .int (nI i)), (0, .ref (ad 0))]) hC.1 hC.2.1 dX0_build_37 rfl hl (by decide) rfl (fun ls hl => ?_)
        refine lv_aload_n hC.1 hC.2.1 dX0_build_38 rfl (lv_at hl 2 rfl) ?_
        refine x_g_definedA hC hw dX0_build_39 ?_
        refine lv_iload_n hC.1 hC.2.1 dX0_build_42 rfl (lv_at hl 1 rfl) ?_
        refine x_ld_da (i := i) hC hw (by omega) dX0_build_43 ?_
        refine lv_istore_n (lv' := [(3, .int (da i)), (2, .int (nI (kd i))), (1, .int (nI i)), (0, .ref (ad 0))]) hC.1 hC.2.1 dX0_build_44 rfl hl (by decide) rfl (fun ls hl => ?_)
        refine lv_aload_n hC.1 hC.2.1 dX0_build_45 rfl (lv_at hl 3 rfl) ?_
        refine x_g_definedB hC hw dX0_build_46 ?_
        refine lv_iload_n hC.1 hC.2.1 dX0_build_49 rfl (lv_at hl 2 rfl) ?_
        refine x_ld_db (i := i) hC hw (by omega) dX0_build_50 ?_
        refine lv_istore (lv' := [(4, .int (db i)), (3, .int (da i)), (2, .int (nI (kd i))), (1, .int (nI i)), (0, .ref (ad 0))]) hC.1 hC.2.1 dX0_build_51 hl (by decide) rfl (fun ls hl => ?_)
        refine lv_aload_n hC.1 hC.2.1 dX0_build_53 rfl (lv_at hl 4 rfl) ?_
        refine lv_iload_n hC.1 hC.2.1 dX0_build_54 rfl (lv_at hl 2 rfl) ?_
        refine cx_calli (ci := 0) (rest := []) (x_worksOnB l (x := kd i) hk8) hC hml hl.1 hw rfl (cwV 1 hC.2.2.2 (lw_V q104 q106 qs2 q29 q107) rfl rfl rfl (by decide +kernel) ⟨Nat.le_of_ble_eq_true rfl, Nat.le_of_ble_eq_true rfl⟩) rfl rfl rfl rfl (Nat.le_of_ble_eq_true rfl) dX0_build_55 ⟨Nat.zero_le _, Nat.zero_le _⟩ (fun r u' H locs hp hw => ?_)
        rcases hp with ⟨rfl, rfl, hq1⟩ | ⟨rfl, rfl, hq1⟩
        · refine xn_if_eq (tgt := 66) hC (by omega) dX0_build_58 (by decide) (fun c => absurd c (by decide)) (fun _ => ?_)
          refine lv_iload hC.1 hC.2.1 dX0_build_61 (lv_at hl 0 rfl) ?_
          refine lv_goto (tgt := 67) hC.1 hC.2.1 dX0_build_63 (by decide) ?_
          refine lv_istore (lv' := [(5, .int (db i)), (4, .int (db i)), (3, .int (da i)), (2, .int (nI (kd i))), (1, .int (nI i)), (0, .ref (ad 0))]) hC.1 hC.2.1 dX0_build_67 hl (by decide) rfl (fun ls hl => ?_)
          refine lv_aload_n hC.1 hC.2.1 dX0_build_69 rfl (lv_at hl 5 rfl) ?_
          refine x_g_root hC hw dX0_build_70 ?_
          refine lv_iload_n hC.1 hC.2.1 dX0_build_73 rfl (lv_at hl 4 rfl) ?_
          refine lv_iload_n hC.1 hC.2.1 dX0_build_74 rfl (lv_at hl 4 rfl) ?_
          refine xn_i2s hC (by omega) dX0_build_75 ?_
          refine x_st_ro (i := i) (v := i) hC hw (by omega) (by omega) dX0_build_76 (fun H locs hw => ?_)
          refine lv_iload_n hC.1 hC.2.1 dX0_build_77 rfl (lv_at hl 3 rfl) ?_
          refine xn_if_ne (tgt := 95) hC (by omega) dX0_build_78 (by decide) (fun c2 => ?_) (fun c2 => ?_)
          · refine lv_iload_n hC.1 hC.2.1 dX0_build_95 rfl (lv_at hl 3 rfl) ?_
            refine lv_iconst (v := nI 1) hC.1 hC.2.1 dX0_build_96 (by decide) ?_
            refine xn_icmp_ne (tgt := 115) hC (by omega) (by omega) dX0_build_97 (by decide) (fun c3 => ?_) (fun c3 => ?_)
            · refine lv_iload_n hC.1 hC.2.1 dX0_build_115 rfl (lv_at hl 3 rfl) ?_
              refine lv_iconst (v := nI 5) hC.1 hC.2.1 dX0_build_116 (by decide) ?_
              refine xn_icmp_ne (tgt := 134) hC (by omega) (by omega) dX0_build_117 (by decide) (fun c4 => ?_) (fun c4 => ?_)
              · refine lv_aload_n hC.1 hC.2.1 dX0_build_134 rfl (lv_at hl 5 rfl) ?_
                refine lv_iload_n hC.1 hC.2.1 dX0_build_135 rfl (lv_at hl 3 rfl) ?_
                refine lv_iconst (v := nI 0) hC.1 hC.2.1 dX0_build_136 (by decide) ?_
                refine lv_iconst (v := nI 0) hC.1 hC.2.1 dX0_build_137 (by decide) ?_
                refine lv_iload_n hC.1 hC.2.1 dX0_build_138 rfl (lv_at hl 2 rfl) ?_
                refine lv_iload hC.1 hC.2.1 dX0_build_139 (lv_at hl 0 rfl) ?_
                have ea : da i = nI (sg_sa (kd, da, db) i) := (hD.a hi6 (by rw [hkd]; unfold sg_usA; omega)).2
                have ea6 : sg_sa (kd, da, db) i < 6 := (hD.a hi6 (by rw [hkd]; unfold sg_usA; omega)).1
                rw [ea]
                have eb : db i = nI (sg_sb (kd, da, db) i) := (hD.b hi6 (by rw [hkd]; unfold sg_usB at *; omega)).2
                have eb6 : sg_sb (kd, da, db) i < 6 := (hD.b hi6 (by rw [hkd]; unfold sg_usB at *; omega)).1
                rw [eb]
                refine cx_calli (ci := 0) (rest := []) (x_allocate l (w := kd i) (n := nI 0) (b := nI 0) (a := sg_sa (kd, da, db) i) (r := sg_sb (kd, da, db) i) (by omega) (by omega) (by omega) (by omega)) hC hml hl.1 hw rfl (cwV 5 hC.2.2.2 (lw_V q120 q122 qs5 q29 q123) rfl rfl rfl (by decide +kernel) ⟨Nat.le_of_ble_eq_true rfl, Nat.le_of_ble_eq_true rfl⟩) rfl rfl rfl rfl (Nat.le_of_ble_eq_true rfl) dX0_build_141 ⟨Nat.zero_le _, Nat.zero_le _⟩ (fun r u' H locs hp hw => ?_)
                obtain ⟨rfl, rfl⟩ := hp
                refine lv_pop hC.1 hC.2.1 dX0_build_144 rfl ?_
                refine lv_iinc (v := nI (i + 1)) (lv' := [(1, .int (nI (i + 1))), (5, .int (db i)), (4, .int (db i)), (3, .int (da i)), (2, .int (nI (kd i))), (0, .ref (ad 0))]) hC.1 hC.2.1 dX0_build_145 hl (k := 4) rfl (xn_inc _) (by decide) rfl (fun ls hl => ?_)
                refine lv_goto (tgt := 25) hC.1 hC.2.1 dX0_build_148 (by decide) ?_
                exact ih (i + 1) _ _ _ _ _ _ _ (by omega) (by omega) (sg_Nw_step hN (Or.inr (Or.inr (Or.inr (Or.inr ⟨by rw [hkd]; unfold sg_usB at *; omega, rfl, nI_0, rfl, rfl⟩))))) H locs ls hw (lv_sub hl [0, 5] rfl)
              · refine lv_aload_n hC.1 hC.2.1 dX0_build_120 rfl (lv_at hl 5 rfl) ?_
                refine lv_iconst (v := nI 5) hC.1 hC.2.1 dX0_build_121 (by decide) ?_
                refine lv_iload_n hC.1 hC.2.1 dX0_build_122 rfl (lv_at hl 2 rfl) ?_
                refine lv_iconst (v := nI 0) hC.1 hC.2.1 dX0_build_123 (by decide) ?_
                refine lv_iload hC.1 hC.2.1 dX0_build_124 (lv_at hl 1 rfl) ?_
                refine lv_iconst (v := nI 0) hC.1 hC.2.1 dX0_build_126 (by decide) ?_
                have eb : db i = nI (sg_sb (kd, da, db) i) := (hD.b hi6 (by rw [hkd]; unfold sg_usB at *; omega)).2
                have eb6 : sg_sb (kd, da, db) i < 6 := (hD.b hi6 (by rw [hkd]; unfold sg_usB at *; omega)).1
                rw [eb]
                refine cx_calli (ci := 0) (rest := []) (x_allocate l (w := 5) (n := da i) (b := nI 0) (a := sg_sb (kd, da, db) i) (r := 0) (by omega) (by omega) (by omega) (by omega)) hC hml hl.1 hw rfl (cwV 5 hC.2.2.2 (lw_V q120 q122 qs5 q29 q123) rfl rfl rfl (by decide +kernel) ⟨Nat.le_of_ble_eq_true rfl, Nat.le_of_ble_eq_true rfl⟩) rfl rfl rfl rfl (Nat.le_of_ble_eq_true rfl) dX0_build_127 ⟨Nat.zero_le _, Nat.zero_le _⟩ (fun r u' H locs hp hw => ?_)
                obtain ⟨rfl, rfl⟩ := hp
                refine lv_pop hC.1 hC.2.1 dX0_build_130 rfl ?_
                refine lv_goto (tgt := 145) hC.1 hC.2.1 dX0_build_131 (by decide) ?_
                refine lv_iinc (v := nI (i + 1)) (lv' := [(1, .int (nI (i + 1))), (5, .int (db i)), (4, .int (db i)), (3, .int (da i)), (2, .int (nI (kd i))), (0, .ref (ad 0))]) hC.1 hC.2.1 dX0_build_145 hl (k := 4) rfl (xn_inc _) (by decide) rfl (fun ls hl => ?_)
                refine lv_goto (tgt := 25) hC.1 hC.2.1 dX0_build_148 (by decide) ?_
                exact ih (i + 1) _ _ _ _ _ _ _ (by omega) (by omega) (sg_Nw_step hN (Or.inr (Or.inr (Or.inl ⟨c4, rfl, rfl, rfl, rfl⟩)))) H locs ls hw (lv_sub hl [0, 5] rfl)
            · refine lv_aload_n hC.1 hC.2.1 dX0_build_100 rfl (lv_at hl 5 rfl) ?_
              refine lv_bipush (v := nI 9) hC.1 hC.2.1 dX0_build_101 (by decide) ?_
              refine lv_iload_n hC.1 hC.2.1 dX0_build_103 rfl (lv_at hl 2 rfl) ?_
              refine lv_iconst (v := nI 0) hC.1 hC.2.1 dX0_build_104 (by decide) ?_
              refine lv_iload hC.1 hC.2.1 dX0_build_105 (lv_at hl 1 rfl) ?_
              refine lv_iconst (v := nI 0) hC.1 hC.2.1 dX0_build_107 (by decide) ?_
              have eb : db i = nI (sg_sb (kd, da, db) i) := (hD.b hi6 (by rw [hkd]; unfold sg_usB at *; omega)).2
              have eb6 : sg_sb (kd, da, db) i < 6 := (hD.b hi6 (by rw [hkd]; unfold sg_usB at *; omega)).1
              rw [eb]
              refine cx_calli (ci := 0) (rest := []) (x_allocate l (w := 9) (n := da i) (b := nI 0) (a := sg_sb (kd, da, db) i) (r := 0) (by omega) (by omega) (by omega) (by omega)) hC hml hl.1 hw rfl (cwV 5 hC.2.2.2 (lw_V q120 q122 qs5 q29 q123) rfl rfl rfl (by decide +kernel) ⟨Nat.le_of_ble_eq_true rfl, Nat.le_of_ble_eq_true rfl⟩) rfl rfl rfl rfl (Nat.le_of_ble_eq_true rfl) dX0_build_108 ⟨Nat.zero_le _, Nat.zero_le _⟩ (fun r u' H locs hp hw => ?_)
              obtain ⟨rfl, rfl⟩ := hp
              refine lv_pop hC.1 hC.2.1 dX0_build_111 rfl ?_
              refine lv_goto (tgt := 145) hC.1 hC.2.1 dX0_build_112 (by decide) ?_
              refine lv_iinc (v := nI (i + 1)) (lv' := [(1, .int (nI (i + 1))), (5, .int (db i)), (4, .int (db i)), (3, .int (da i)), (2, .int (nI (kd i))), (0, .ref (ad 0))]) hC.1 hC.2.1 dX0_build_145 hl (k := 4) rfl (xn_inc _) (by decide) rfl (fun ls hl => ?_)
              refine lv_goto (tgt := 25) hC.1 hC.2.1 dX0_build_148 (by decide) ?_
              exact ih (i + 1) _ _ _ _ _ _ _ (by omega) (by omega) (sg_Nw_step hN (Or.inl ⟨c3, rfl, rfl, rfl, rfl⟩)) H locs ls hw (lv_sub hl [0, 5] rfl)
          · refine lv_aload_n hC.1 hC.2.1 dX0_build_81 rfl (lv_at hl 5 rfl) ?_
            refine lv_iconst (v := nI 0) hC.1 hC.2.1 dX0_build_82 (by decide) ?_
            refine lv_iload_n hC.1 hC.2.1 dX0_build_83 rfl (lv_at hl 2 rfl) ?_
            refine lv_iload hC.1 hC.2.1 dX0_build_84 (lv_at hl 1 rfl) ?_
            refine lv_iconst (v := nI 0) hC.1 hC.2.1 dX0_build_86 (by decide) ?_
            refine lv_iconst (v := nI 0) hC.1 hC.2.1 dX0_build_87 (by decide) ?_
            refine cx_calli (ci := 0) (rest := []) (x_allocate l (w := 0) (n := da i) (b := db i) (a := 0) (r := 0) (by omega) (by omega) (by omega) (by omega)) hC hml hl.1 hw rfl (cwV 5 hC.2.2.2 (lw_V q120 q122 qs5 q29 q123) rfl rfl rfl (by decide +kernel) ⟨Nat.le_of_ble_eq_true rfl, Nat.le_of_ble_eq_true rfl⟩) rfl rfl rfl rfl (Nat.le_of_ble_eq_true rfl) dX0_build_88 ⟨Nat.zero_le _, Nat.zero_le _⟩ (fun r u' H locs hp hw => ?_)
            obtain ⟨rfl, rfl⟩ := hp
            refine lv_pop hC.1 hC.2.1 dX0_build_91 rfl ?_
            refine lv_goto (tgt := 145) hC.1 hC.2.1 dX0_build_92 (by decide) ?_
            refine lv_iinc (v := nI (i + 1)) (lv' := [(1, .int (nI (i + 1))), (5, .int (db i)), (4, .int (db i)), (3, .int (da i)), (2, .int (nI (kd i))), (0, .ref (ad 0))]) hC.1 hC.2.1 dX0_build_145 hl (k := 4) rfl (xn_inc _) (by decide) rfl (fun ls hl => ?_)
            refine lv_goto (tgt := 25) hC.1 hC.2.1 dX0_build_148 (by decide) ?_
            exact ih (i + 1) _ _ _ _ _ _ _ (by omega) (by omega) (sg_Nw_step hN (Or.inr (Or.inl ⟨c2, rfl, rfl, rfl, rfl, rfl⟩))) H locs ls hw (lv_sub hl [0, 5] rfl)
        · refine xn_if_eq (tgt := 66) hC (by omega) dX0_build_58 (by decide) (fun _ => ?_) (fun c => absurd c (by decide))
          refine lv_iconst (v := nI 0) hC.1 hC.2.1 dX0_build_66 (by decide) ?_
          refine lv_istore (lv' := [(5, .int (nI 0)), (4, .int (db i)), (3, .int (da i)), (2, .int (nI (kd i))), (1, .int (nI i)), (0, .ref (ad 0))]) hC.1 hC.2.1 dX0_build_67 hl (by decide) rfl (fun ls hl => ?_)
          refine lv_aload_n hC.1 hC.2.1 dX0_build_69 rfl (lv_at hl 5 rfl) ?_
          refine x_g_root hC hw dX0_build_70 ?_
          refine lv_iload_n hC.1 hC.2.1 dX0_build_73 rfl (lv_at hl 4 rfl) ?_
          refine lv_iload_n hC.1 hC.2.1 dX0_build_74 rfl (lv_at hl 4 rfl) ?_
          refine xn_i2s hC (by omega) dX0_build_75 ?_
          refine x_st_ro (i := i) (v := i) hC hw (by omega) (by omega) dX0_build_76 (fun H locs hw => ?_)
          refine lv_iload_n hC.1 hC.2.1 dX0_build_77 rfl (lv_at hl 3 rfl) ?_
          refine xn_if_ne (tgt := 95) hC (by omega) dX0_build_78 (by decide) (fun c2 => ?_) (fun c2 => ?_)
          · refine lv_iload_n hC.1 hC.2.1 dX0_build_95 rfl (lv_at hl 3 rfl) ?_
            refine lv_iconst (v := nI 1) hC.1 hC.2.1 dX0_build_96 (by decide) ?_
            refine xn_icmp_ne (tgt := 115) hC (by omega) (by omega) dX0_build_97 (by decide) (fun c3 => ?_) (fun c3 => ?_)
            · refine lv_iload_n hC.1 hC.2.1 dX0_build_115 rfl (lv_at hl 3 rfl) ?_
              refine lv_iconst (v := nI 5) hC.1 hC.2.1 dX0_build_116 (by decide) ?_
              refine xn_icmp_ne (tgt := 134) hC (by omega) (by omega) dX0_build_117 (by decide) (fun c4 => ?_) (fun c4 => ?_)
              · refine lv_aload_n hC.1 hC.2.1 dX0_build_134 rfl (lv_at hl 5 rfl) ?_
                refine lv_iload_n hC.1 hC.2.1 dX0_build_135 rfl (lv_at hl 3 rfl) ?_
                refine lv_iconst (v := nI 0) hC.1 hC.2.1 dX0_build_136 (by decide) ?_
                refine lv_iconst (v := nI 0) hC.1 hC.2.1 dX0_build_137 (by decide) ?_
                refine lv_iload_n hC.1 hC.2.1 dX0_build_138 rfl (lv_at hl 2 rfl) ?_
                refine lv_iload hC.1 hC.2.1 dX0_build_139 (lv_at hl 0 rfl) ?_
                have ea : da i = nI (sg_sa (kd, da, db) i) := (hD.a hi6 (by rw [hkd]; unfold sg_usA; omega)).2
                have ea6 : sg_sa (kd, da, db) i < 6 := (hD.a hi6 (by rw [hkd]; unfold sg_usA; omega)).1
                rw [ea]
                refine cx_calli (ci := 0) (rest := []) (x_allocate l (w := kd i) (n := nI 0) (b := nI 0) (a := sg_sa (kd, da, db) i) (r := 0) (by omega) (by omega) (by omega) (by omega)) hC hml hl.1 hw rfl (cwV 5 hC.2.2.2 (lw_V q120 q122 qs5 q29 q123) rfl rfl rfl (by decide +kernel) ⟨Nat.le_of_ble_eq_true rfl, Nat.le_of_ble_eq_true rfl⟩) rfl rfl rfl rfl (Nat.le_of_ble_eq_true rfl) dX0_build_141 ⟨Nat.zero_le _, Nat.zero_le _⟩ (fun r u' H locs hp hw => ?_)
                obtain ⟨rfl, rfl⟩ := hp
                refine lv_pop hC.1 hC.2.1 dX0_build_144 rfl ?_
                refine lv_iinc (v := nI (i + 1)) (lv' := [(1, .int (nI (i + 1))), (5, .int (nI 0)), (4, .int (db i)), (3, .int (da i)), (2, .int (nI (kd i))), (0, .ref (ad 0))]) hC.1 hC.2.1 dX0_build_145 hl (k := 4) rfl (xn_inc _) (by decide) rfl (fun ls hl => ?_)
                refine lv_goto (tgt := 25) hC.1 hC.2.1 dX0_build_148 (by decide) ?_
                exact ih (i + 1) _ _ _ _ _ _ _ (by omega) (by omega) (sg_Nw_step hN (Or.inr (Or.inr (Or.inr (Or.inl ⟨by rw [hkd]; unfold sg_usB at *; omega, rfl, nI_0, rfl, rfl⟩))))) H locs ls hw (lv_sub hl [0, 5] rfl)
              · refine lv_aload_n hC.1 hC.2.1 dX0_build_120 rfl (lv_at hl 5 rfl) ?_
                refine lv_iconst (v := nI 5) hC.1 hC.2.1 dX0_build_121 (by decide) ?_
                refine lv_iload_n hC.1 hC.2.1 dX0_build_122 rfl (lv_at hl 2 rfl) ?_
                refine lv_iconst (v := nI 0) hC.1 hC.2.1 dX0_build_123 (by decide) ?_
                refine lv_iload hC.1 hC.2.1 dX0_build_124 (lv_at hl 1 rfl) ?_
                refine lv_iconst (v := nI 0) hC.1 hC.2.1 dX0_build_126 (by decide) ?_
                have eb : db i = nI (sg_sb (kd, da, db) i) := (hD.b hi6 (by rw [hkd]; unfold sg_usB at *; omega)).2
                have eb6 : sg_sb (kd, da, db) i < 6 := (hD.b hi6 (by rw [hkd]; unfold sg_usB at *; omega)).1
                rw [eb]
                refine cx_calli (ci := 0) (rest := []) (x_allocate l (w := 5) (n := da i) (b := nI 0) (a := sg_sb (kd, da, db) i) (r := 0) (by omega) (by omega) (by omega) (by omega)) hC hml hl.1 hw rfl (cwV 5 hC.2.2.2 (lw_V q120 q122 qs5 q29 q123) rfl rfl rfl (by decide +kernel) ⟨Nat.le_of_ble_eq_true rfl, Nat.le_of_ble_eq_true rfl⟩) rfl rfl rfl rfl (Nat.le_of_ble_eq_true rfl) dX0_build_127 ⟨Nat.zero_le _, Nat.zero_le _⟩ (fun r u' H locs hp hw => ?_)
                obtain ⟨rfl, rfl⟩ := hp
                refine lv_pop hC.1 hC.2.1 dX0_build_130 rfl ?_
                refine lv_goto (tgt := 145) hC.1 hC.2.1 dX0_build_131 (by decide) ?_
                refine lv_iinc (v := nI (i + 1)) (lv' := [(1, .int (nI (i + 1))), (5, .int (nI 0)), (4, .int (db i)), (3, .int (da i)), (2, .int (nI (kd i))), (0, .ref (ad 0))]) hC.1 hC.2.1 dX0_build_145 hl (k := 4) rfl (xn_inc _) (by decide) rfl (fun ls hl => ?_)
                refine lv_goto (tgt := 25) hC.1 hC.2.1 dX0_build_148 (by decide) ?_
                exact ih (i + 1) _ _ _ _ _ _ _ (by omega) (by omega) (sg_Nw_step hN (Or.inr (Or.inr (Or.inl ⟨c4, rfl, rfl, rfl, rfl⟩)))) H locs ls hw (lv_sub hl [0, 5] rfl)
            · refine lv_aload_n hC.1 hC.2.1 dX0_build_100 rfl (lv_at hl 5 rfl) ?_
              refine lv_bipush (v := nI 9) hC.1 hC.2.1 dX0_build_101 (by decide) ?_
              refine lv_iload_n hC.1 hC.2.1 dX0_build_103 rfl (lv_at hl 2 rfl) ?_
              refine lv_iconst (v := nI 0) hC.1 hC.2.1 dX0_build_104 (by decide) ?_
              refine lv_iload hC.1 hC.2.1 dX0_build_105 (lv_at hl 1 rfl) ?_
              refine lv_iconst (v := nI 0) hC.1 hC.2.1 dX0_build_107 (by decide) ?_
              have eb : db i = nI (sg_sb (kd, da, db) i) := (hD.b hi6 (by rw [hkd]; unfold sg_usB at *; omega)).2
              have eb6 : sg_sb (kd, da, db) i < 6 := (hD.b hi6 (by rw [hkd]; unfold sg_usB at *; omega)).1
              rw [eb]
              refine cx_calli (ci := 0) (rest := []) (x_allocate l (w := 9) (n := da i) (b := nI 0) (a := sg_sb (kd, da, db) i) (r := 0) (by omega) (by omega) (by omega) (by omega)) hC hml hl.1 hw rfl (cwV 5 hC.2.2.2 (lw_V q120 q122 qs5 q29 q123) rfl rfl rfl (by decide +kernel) ⟨Nat.le_of_ble_eq_true rfl, Nat.le_of_ble_eq_true rfl⟩) rfl rfl rfl rfl (Nat.le_of_ble_eq_true rfl) dX0_build_108 ⟨Nat.zero_le _, Nat.zero_le _⟩ (fun r u' H locs hp hw => ?_)
              obtain ⟨rfl, rfl⟩ := hp
              refine lv_pop hC.1 hC.2.1 dX0_build_111 rfl ?_
              refine lv_goto (tgt := 145) hC.1 hC.2.1 dX0_build_112 (by decide) ?_
              refine lv_iinc (v := nI (i + 1)) (lv' := [(1, .int (nI (i + 1))), (5, .int (nI 0)), (4, .int (db i)), (3, .int (da i)), (2, .int (nI (kd i))), (0, .ref (ad 0))]) hC.1 hC.2.1 dX0_build_145 hl (k := 4) rfl (xn_inc _) (by decide) rfl (fun ls hl => ?_)
              refine lv_goto (tgt := 25) hC.1 hC.2.1 dX0_build_148 (by decide) ?_
              exact ih (i + 1) _ _ _ _ _ _ _ (by omega) (by omega) (sg_Nw_step hN (Or.inl ⟨c3, rfl, rfl, rfl, rfl⟩)) H locs ls hw (lv_sub hl [0, 5] rfl)
          · refine lv_aload_n hC.1 hC.2.1 dX0_build_81 rfl (lv_at hl 5 rfl) ?_
            refine lv_iconst (v := nI 0) hC.1 hC.2.1 dX0_build_82 (by decide) ?_
            refine lv_iload_n hC.1 hC.2.1 dX0_build_83 rfl (lv_at hl 2 rfl) ?_
            refine lv_iload hC.1 hC.2.1 dX0_build_84 (lv_at hl 1 rfl) ?_
            refine lv_iconst (v := nI 0) hC.1 hC.2.1 dX0_build_86 (by decide) ?_
            refine lv_iconst (v := nI 0) hC.1 hC.2.1 dX0_build_87 (by decide) ?_
            refine cx_calli (ci := 0) (rest := []) (x_allocate l (w := 0) (n := da i) (b := db i) (a := 0) (r := 0) (by omega) (by omega) (by omega) (by omega)) hC hml hl.1 hw rfl (cwV 5 hC.2.2.2 (lw_V q120 q122 qs5 q29 q123) rfl rfl rfl (by decide +kernel) ⟨Nat.le_of_ble_eq_true rfl, Nat.le_of_ble_eq_true rfl⟩) rfl rfl rfl rfl (Nat.le_of_ble_eq_true rfl) dX0_build_88 ⟨Nat.zero_le _, Nat.zero_le _⟩ (fun r u' H locs hp hw => ?_)
            obtain ⟨rfl, rfl⟩ := hp
            refine lv_pop hC.1 hC.2.1 dX0_build_91 rfl ?_
            refine lv_goto (tgt := 145) hC.1 hC.2.1 dX0_build_92 (by decide) ?_
            refine lv_iinc (v := nI (i + 1)) (lv' := [(1, .int (nI (i + 1))), (5, .int (nI 0)), (4, .int (db i)), (3, .int (da i)), (2, .int (nI (kd i))), (0, .ref (ad 0))]) hC.1 hC.2.1 dX0_build_145 hl (k := 4) rfl (xn_inc _) (by decide) rfl (fun ls hl => ?_)
            refine lv_goto (tgt := 25) hC.1 hC.2.1 dX0_build_148 (by decide) ?_
            exact ih (i + 1) _ _ _ _ _ _ _ (by omega) (by omega) (sg_Nw_step hN (Or.inr (Or.inl ⟨c2, rfl, rfl, rfl, rfl, rfl⟩))) H locs ls hw (lv_sub hl [0, 5] rfl)
  refine lv_aload_n hC.1 hC.2.1 dX0_build_0 rfl (lv_at hl 0 rfl) ?_
  refine x_g_built hC hw dX0_build_1 ?_
  refine xn_if_eq (tgt := 8) hC (by have := hok.1; omega) dX0_build_4 (by decide) (fun c0 => ?_) (fun c0 => ?_)
  · refine lv_aload_n hC.1 hC.2.1 dX0_build_8 rfl (lv_at hl 0 rfl) ?_
    refine lv_iconst (v := nI 1) hC.1 hC.2.1 dX0_build_9 (by decide) ?_
    refine x_p_built hC hw (by omega) dX0_build_10 (fun H locs hw => ?_)
    refine lv_aload_n hC.1 hC.2.1 dX0_build_13 rfl (lv_at hl 0 rfl) ?_
    refine lv_iconst (v := nI 0) hC.1 hC.2.1 dX0_build_14 (by decide) ?_
    refine x_p_base hC hw dX0_build_15 (fun H locs hw => ?_)
    refine lv_aload_n hC.1 hC.2.1 dX0_build_18 rfl (lv_at hl 0 rfl) ?_
    refine lv_iconst (v := nI 0) hC.1 hC.2.1 dX0_build_19 (by decide) ?_
    refine x_p_top hC hw dX0_build_20 (fun H locs hw => ?_)
    refine lv_iconst (v := nI 0) hC.1 hC.2.1 dX0_build_23 (by decide) ?_
    refine lv_istore_n (lv' := [(1, .int (nI 0)), (0, .ref (ad 0))]) hC.1 hC.2.1 dX0_build_24 rfl hl (by decide) rfl (fun ls hl => ?_)
    exact loop 7 0 st nu sp lf rt bz ro (by omega) (by omega) (fun j hj => absurd hj (by omega)) H locs ls hw hl
  · obtain ⟨e0, nm, hG⟩ := hok.2 (by have := hok.1; omega)
    have e1 : bt = 1 := by have := hok.1; omega
    subst e0
    subst e1
    exact cx_vret hC hr hk hw ⟨nm, _, _, _, _, _, _, _, _, rfl, hG⟩ dX0_build_7
set_option maxHeartbeats 4000000 in
set_option maxRecDepth 100000 in
/-- the cell of an element -/
theorem x_reach (l : Launch) {kd : Nat → Nat} {da : Nat → Int32} {db : Nat → Int32} {bt : Nat} {ba : Nat} {tp : Nat} {st : Nat → Nat} {nu : Nat → Int32} {sp : Nat → Int32} {lf : Nat → Nat} {rt : Nat → Nat} {bz : Nat → Nat} {mv : Nat → Int32} {ro : Nat → Nat} {sk : Nat → Nat} {hh : Nat} {sq kq : Nat} (hD : sg_Ok (kd, da, db)) (hok : xOk (kd, da, db) bt ba tp st nu sp lf rt bz ro) (hs6 : sq < 6) (hk15 : kq ≤ 15) : cx_Mi l yX0_reach cX0_reach 5 (some .int) ({ frames := 4, cells := 0, slots := 0, locals := 103 }) xW xT [.int (nI sq), .int (nI kq)] (fun u => u = (kd, da, db, bt, ba, tp, st, nu, sp, lf, rt, bz, mv, ro, sk, hh)) (fun _ r' u' => ∃ nm' tp' st' nu' sp' lf' rt' bz' ro' sk' hh', u' = (kd, da, db, 1, 0, tp', st', nu', sp', lf', rt', bz', mv, ro', sk', hh') ∧ sg_Gg (kd, da, db) nm' tp' st' nu' sp' lf' rt' bz' ro' ∧ sg_An (kd, da, db) nm' st' tp' sq kq r') := by
  refine cx_Mi.of (by decide) (fun _ => Nat.le_of_ble_eq_true rfl) ?_
  intro p e s m below meth c Dg ad ct A u ls hu hC hml hr hk hw hl
  subst hu
  have hC : cx_C p m c cX0_reach s _ RX0 := hC
  have hl : lv_has ls 5 [(0, .ref (ad 0)), (1, .int (nI sq)), (2, .int (nI kq))] := hl
  refine lv_aload_n hC.1 hC.2.1 dX0_reach_0 rfl (lv_at hl 0 rfl) ?_
  refine cx_callv (ci := 0) (rest := []) (x_build l hD hok) hC hml hl.1 hw rfl (cwV 0 hC.2.2.2 (lw_V q116 q118 qs4 q29 q119) rfl rfl rfl (by decide +kernel) ⟨Nat.le_of_ble_eq_true rfl, Nat.le_of_ble_eq_true rfl⟩) rfl rfl rfl rfl (Nat.le_of_ble_eq_true rfl) dX0_reach_1 ⟨Nat.zero_le _, Nat.zero_le _⟩ (fun u' H locs hp hw => ?_)
  obtain ⟨nm, tp', st', nu', sp', lf', rt', bz', ro', rfl, hG⟩ := hp
  refine lv_aload_n hC.1 hC.2.1 dX0_reach_4 rfl (lv_at hl 0 rfl) ?_
  refine lv_aload_n hC.1 hC.2.1 dX0_reach_5 rfl (lv_at hl 0 rfl) ?_
  refine x_g_root hC hw dX0_reach_6 ?_
  refine lv_iload_n hC.1 hC.2.1 dX0_reach_9 rfl (lv_at hl 1 rfl) ?_
  refine x_ld_ro (i := sq) hC hw (by omega) dX0_reach_10 ?_
  rw [hG.1 sq hs6]
  have hrep := sg_Rep.nm (D := (kd, da, db)) (st := st') hs6 (Nat.lt_of_lt_of_le hs6 hG.2.1.six) (hG.2.1.root hs6)
  refine cx_calli (ci := 0) (rest := []) (x_force l (x := sq) hD hG.2.1 hG.2.2 rfl (by omega) hrep) hC hml hl.1 hw rfl (cwV 1 hC.2.2.2 (lw_V q124 q126 qs6 q29 q127) rfl rfl rfl (by decide +kernel) ⟨Nat.le_of_ble_eq_true rfl, Nat.le_of_ble_eq_true rfl⟩) rfl rfl rfl rfl (Nat.le_of_ble_eq_true rfl) dX0_reach_11 ⟨Nat.zero_le _, Nat.zero_le _⟩ (fun r u' H locs hp hw => ?_)
  obtain ⟨nm1, tp1, st1, nu1, sp1, lf1, rt1, bz1, sk1, hh1, rfl, hI1, hb1, hA1⟩ := hp
  refine lv_istore_n (lv' := [(3, .int r), (0, .ref (ad 0)), (1, .int (nI sq)), (2, .int (nI kq))]) hC.1 hC.2.1 dX0_reach_14 rfl hl (by decide) rfl (fun ls hl => ?_)
  refine lv_iconst (v := nI 0) hC.1 hC.2.1 dX0_reach_15 (by decide) ?_
  refine lv_istore (lv' := [(4, .int (nI 0)), (3, .int r), (0, .ref (ad 0)), (1, .int (nI sq)), (2, .int (nI kq))]) hC.1 hC.2.1 dX0_reach_16 hl (by decide) rfl (fun ls hl => ?_)
  have loop : ∀ (n : Nat) (j : Nat) (r : Int32) (nm : Nat → Nat × Nat) (tp : Nat) (st : Nat → Nat) (nu sp : Nat → Int32) (lf rt bz sk : Nat → Nat) (hh : Nat), j ≤ kq → kq + 1 ≤ j + n → sg_Gg (kd, da, db) nm tp st nu sp lf rt bz ro' → sg_An (kd, da, db) nm st tp sq j r → ∀ (H : Heap) (locs : List Loc) (ls : Array Slot), cx_W Dg (xT ct) A s s.heap H locs (xW ad ct (kd, da, db, 1, 0, tp, st, nu, sp, lf, rt, bz, mv, ro', sk, hh)) → lv_has ls 5 [(4, .int (nI j)), (3, .int r), (2, .int (nI kq)), (1, .int (nI sq)), (0, .ref (ad 0))] → W p l e ({ frames := 4, cells := 0, slots := 0, locals := 103 }) s m ([.ref (ad 0), .int (nI sq), .int (nI kq)] : List Value).toArray below meth c H locs 0 0 (MQ below (va_Qi (fun r' u' => ∃ nm' tp' st' nu' sp' lf' rt' bz' ro' sk' hh', u' = (kd, da, db, 1, 0, tp', st', nu', sp', lf', rt', bz', mv, ro', sk', hh') ∧ sg_Gg (kd, da, db) nm' tp' st' nu' sp' lf' rt' bz' ro' ∧ sg_An (kd, da, db) nm' st' tp' sq kq r') (cx_B Dg (xT ct) (xW ad ct) A) A) ([.ref (ad 0), .int (nI sq), .int (nI kq)] : List Value).toArray s 0 0 A) (F0 m 18 ls []) := by
    intro n
    induction n with
    | zero =>
      intro j r nm tp st nu sp lf rt bz sk hh hjk hn
      exact absurd hn (by omega)
    | succ n ih =>
      intro j r nm tp st nu sp lf rt bz sk hh hjk hn hG hA H locs ls hw hl
      rcases hA with ⟨c0, rfl, hc9, hcR⟩ | ⟨rfl, hno⟩
      · refine lv_iload hC.1 hC.2.1 dX0_reach_18 (lv_at hl 0 rfl) ?_
        refine lv_iload_n hC.1 hC.2.1 dX0_reach_20 rfl (lv_at hl 2 rfl) ?_
        refine xn_icmp_ge (tgt := 45) hC (by omega) (by omega) dX0_reach_21 (by decide) (fun c1 => ?_) (fun c1 => ?_)
        · refine lv_iload_n hC.1 hC.2.1 dX0_reach_45 rfl (lv_at hl 1 rfl) ?_
          exact cx_iret hC hr hk hw ⟨nm, tp, st, nu, sp, lf, rt, bz, ro', sk, hh, rfl, hG, Or.inl ⟨c0, rfl, hc9, by rw [show kq = j by omega]; exact hcR⟩⟩ dX0_reach_46
        · refine lv_iload_n hC.1 hC.2.1 dX0_reach_24 rfl (lv_at hl 1 rfl) ?_
          refine xn_if_lt (tgt := 45) hC (by have := hG.2.1.top; have := hcR.1; omega) dX0_reach_25 (by decide) ?_
          refine lv_aload_n hC.1 hC.2.1 dX0_reach_28 rfl (lv_at hl 4 rfl) ?_
          refine lv_aload_n hC.1 hC.2.1 dX0_reach_29 rfl (lv_at hl 4 rfl) ?_
          refine x_g_left hC hw dX0_reach_30 ?_
          refine lv_iload_n hC.1 hC.2.1 dX0_reach_33 rfl (lv_at hl 1 rfl) ?_
          refine x_ld_lf (i := c0) hC hw (by have := hG.2.1.top; have := hcR.1; omega) dX0_reach_34 ?_
          have hrep := hcR.next hG.2.1 hc9
          refine cx_calli (ci := 0) (rest := []) (x_force l (x := lf c0) hD hG.2.1 hG.2.2 rfl (by omega) hrep) hC hml hl.1 hw rfl (cwV 1 hC.2.2.2 (lw_V q124 q126 qs6 q29 q127) rfl rfl rfl (by decide +kernel) ⟨Nat.le_of_ble_eq_true rfl, Nat.le_of_ble_eq_true rfl⟩) rfl rfl rfl rfl (Nat.le_of_ble_eq_true rfl) dX0_reach_35 ⟨Nat.zero_le _, Nat.zero_le _⟩ (fun r u' H locs hp hw => ?_)
          obtain ⟨nm1, tp1, st1, nu1, sp1, lf1, rt1, bz1, sk1, hh1, rfl, hI1, hb1, hA1⟩ := hp
          refine lv_istore_n (lv' := [(3, .int r), (4, .int (nI j)), (2, .int (nI kq)), (1, .int (nI sq)), (0, .ref (ad 0))]) hC.1 hC.2.1 dX0_reach_38 rfl hl (by decide) rfl (fun ls hl => ?_)
          refine lv_iinc (v := nI (j + 1)) (lv' := [(4, .int (nI (j + 1))), (3, .int r), (2, .int (nI kq)), (1, .int (nI sq)), (0, .ref (ad 0))]) hC.1 hC.2.1 dX0_reach_39 hl (k := 1) rfl (xn_inc _) (by decide) rfl (fun ls hl => ?_)
          refine lv_goto (tgt := 18) hC.1 hC.2.1 dX0_reach_42 (by decide) ?_
          exact ih (j + 1) r nm1 tp1 st1 nu1 sp1 lf1 rt1 bz1 sk1 hh1 (by omega) (by omega) ⟨hG.1, hI1, hb1⟩ hA1 H locs ls hw (lv_sub hl [0, 1, 2, 3, 4] rfl)
      · refine lv_iload hC.1 hC.2.1 dX0_reach_18 (lv_at hl 0 rfl) ?_
        refine lv_iload_n hC.1 hC.2.1 dX0_reach_20 rfl (lv_at hl 2 rfl) ?_
        refine xn_icmp_ge (tgt := 45) hC (by omega) (by omega) dX0_reach_21 (by decide) (fun c1 => ?_) (fun c1 => ?_)
        · refine lv_iload_n hC.1 hC.2.1 dX0_reach_45 rfl (lv_at hl 1 rfl) ?_
          exact cx_iret hC hr hk hw ⟨nm, tp, st, nu, sp, lf, rt, bz, ro', sk, hh, rfl, hG, sg_An.up hD hs6 hjk hno⟩ dX0_reach_46
        · refine lv_iload_n hC.1 hC.2.1 dX0_reach_24 rfl (lv_at hl 1 rfl) ?_
          refine lv_if_lt (tgt := 45) hC.1 hC.2.1 dX0_reach_25 (by decide) (fun g1 => ?_) (fun g1 => absurd (by decide) g1)
          refine lv_iload_n hC.1 hC.2.1 dX0_reach_45 rfl (lv_at hl 1 rfl) ?_
          exact cx_iret hC hr hk hw ⟨nm, tp, st, nu, sp, lf, rt, bz, ro', sk, hh, rfl, hG, sg_An.up hD hs6 hjk hno⟩ dX0_reach_46
  exact loop (kq + 1) 0 r nm1 tp1 st1 nu1 sp1 lf1 rt1 bz1 sk1 hh1 (by omega) (by omega) ⟨hG.1, hI1, hb1⟩ hA1 H locs ls hw (lv_sub hl [0, 1, 4, 3, 2] rfl)
end
section

/-! SelectorGc: what is asked -/
def xSt (D : sg_D) (u : xS) : Prop := match u with
  | (kd, da, db, bt, ba, tp, st, nu, sp, lf, rt, bz, mv, ro, sk, hh) => D = (kd, da, db) ∧ xOk (kd, da, db) bt ba tp st nu sp lf rt bz ro
def sg_k15 (k : Int32) : Prop := ∃ j, j ≤ 15 ∧ k = nI j
theorem sg_k15_yes {k : Int32} (h0 : ¬ k < 0) (h5 : k ≤ nI 15) : sg_k15 k := by
  obtain ⟨j, hj, e⟩ := nI_of h0
  rw [e, nI_leI hj (by omega)] at h5
  exact ⟨j, h5, e⟩
theorem sg_k15_neg {k : Int32} (h0 : k < 0) : ¬ sg_k15 k := by
  rintro ⟨j, hj, rfl⟩
  exact nI_pos (by omega) h0
theorem sg_k15_big {k : Int32} (h5 : ¬ k ≤ nI 15) : ¬ sg_k15 k := by
  rintro ⟨j, hj, rfl⟩
  rw [nI_leI (by omega) (by omega)] at h5
  omega
def sg_Ry (D : sg_D) (s k r : Int32) : Prop := (∃ i j, i < 6 ∧ j ≤ 15 ∧ s = nI i ∧ k = nI j ∧ ((sg_V D i j = none ∧ r = nI 0) ∨ (sg_V D i j ≠ none ∧ r = nI 1))) ∨ (¬ (sg_sq s ∧ sg_k15 k) ∧ r = nI 0)
def sg_El (D : sg_D) (s k r : Int32) : Prop := (∃ i j, i < 6 ∧ j ≤ 15 ∧ s = nI i ∧ k = nI j ∧ r = (sg_V D i j).getD (nI 0)) ∨ (¬ (sg_sq s ∧ sg_k15 k) ∧ r = nI 0)
def sg_Kn (D : sg_D) (s r : Int32) : Prop := (∃ i, i < 6 ∧ s = nI i ∧ r = nI (sg_kn (sg_V D i) 16)) ∨ (¬ sg_sq s ∧ r = -1)
def sg_Fa (D : sg_D) (s v r : Int32) : Prop := (∃ i, i < 6 ∧ s = nI i ∧ sg_FA (sg_V D i) v r) ∨ (¬ sg_sq s ∧ r = -1)
def sg_Ag (D : sg_D) (s t r : Int32) : Prop := (∃ i j, i < 6 ∧ j < 6 ∧ s = nI i ∧ t = nI j ∧ r = nI (sg_ag (sg_V D i) (sg_V D j) 16)) ∨ (¬ (sg_sq s ∧ sg_sq t) ∧ r = -1)
def sg_Kd (D : sg_D) (s r : Int32) : Prop := (∃ i, i < 6 ∧ s = nI i ∧ r = nI (sg_kd D i)) ∨ (¬ sg_sq s ∧ r = -1)
def sg_Can (s k a b : Int32) (i c : Nat) : Prop := i < 6 ∧ c ≤ 8 ∧ s = nI i ∧ k = nI c ∧ (sg_usA c → sg_sq a) ∧ (sg_usB c → sg_sq b)
def sg_df (D : sg_D) (i c : Nat) (a b : Int32) : sg_D := (va_up D.1 i c, va_up D.2.1 i a, va_up D.2.2 i b)
def sg_Df (D : sg_D) (s k a b r : Int32) (D' : sg_D) : Prop := (∃ i c, sg_Can s k a b i c ∧ r = nI 1 ∧ D' = sg_df D i c a b) ∨ ((¬ ∃ i c, sg_Can s k a b i c) ∧ r = nI 0 ∧ D' = D)
def sg_rs (D : sg_D) : Nat → sg_D
  | 0 => D
  | n + 1 => sg_df (sg_rs D n) n 0 0 0
theorem sg_sq_nI {i j : Nat} (hi : i < 6) (hj : j < 2 ^ 31) (h : nI i = nI j) : i = j := (nI_eq (by omega) hj).mp h
theorem sg_kd8 {k : Int32} (h0 : ¬ k < 0) (h5 : k ≤ nI 8) : ∃ c, c ≤ 8 ∧ k = nI c := by
  obtain ⟨j, hj, e⟩ := nI_of h0
  rw [e, nI_leI hj (by omega)] at h5
  exact ⟨j, h5, e⟩
set_option maxHeartbeats 4000000 in
set_option maxRecDepth 100000 in
/-- asked for an element -/
theorem x_ready (l : Launch)  {D : sg_D} {x y : Int32} (hD : sg_Ok D) : cx_Mi l yX0_ready cX0_ready 3 (some .boolean) ({ frames := 5, cells := 0, slots := 0, locals := 127 }) xW xT [.int x, .int y] (xSt D) (fun _ r' u' => xSt D u' ∧ sg_Ry D x y r') := by
  refine cx_Mi.of (by decide) (fun _ => Nat.le_of_ble_eq_true rfl) ?_
  intro p e s m below meth c Dg ad ct A u ls hu hC hml hr hk hw hl
  obtain ⟨kd, da, db, bt, ba, tp, st, nu, sp, lf, rt, bz, mv, ro, sk, hh⟩ := u
  obtain ⟨rfl, hok⟩ := hu
  have hC : cx_C p m c cX0_ready s _ RX0 := hC
  have hl : lv_has ls 3 [(0, .ref (ad 0)), (1, .int x), (2, .int y)] := hl
  refine lv_aload_n hC.1 hC.2.1 dX0_ready_0 rfl (lv_at hl 0 rfl) ?_
  refine lv_iload_n hC.1 hC.2.1 dX0_ready_1 rfl (lv_at hl 1 rfl) ?_
  refine cx_calli (ci := 0) (rest := []) (x_isSequence l (x := x) ) hC hml hl.1 hw rfl (cwV 1 hC.2.2.2 (lw_V q96 q98 qs0 q29 q99) rfl rfl rfl (by decide +kernel) ⟨Nat.le_of_ble_eq_true rfl, Nat.le_of_ble_eq_true rfl⟩) rfl rfl rfl rfl (Nat.le_of_ble_eq_true rfl) dX0_ready_2 ⟨Nat.zero_le _, Nat.zero_le _⟩ (fun r u' H locs hp hw => ?_)
  rcases hp with ⟨rfl, rfl, hq1⟩ | ⟨rfl, rfl, hq1⟩
  · obtain ⟨i, hi, rfl⟩ := hq1
    refine xn_if_eq (tgt := 18) hC (by omega) dX0_ready_5 (by decide) (fun c => absurd c (by decide)) (fun _ => ?_)
    refine lv_iload_n hC.1 hC.2.1 dX0_ready_8 rfl (lv_at hl 2 rfl) ?_
    refine lv_if_lt (tgt := 18) hC.1 hC.2.1 dX0_ready_9 (by decide) (fun c1 => ?_) (fun c1 => ?_)
    · refine lv_iconst (v := nI 0) hC.1 hC.2.1 dX0_ready_18 (by decide) ?_
      exact cx_zret hC hr hk hw (by decide) ⟨⟨rfl, hok⟩, Or.inr ⟨fun q => sg_k15_neg c1 q.2, rfl⟩⟩ dX0_ready_19
    · refine lv_iload_n hC.1 hC.2.1 dX0_ready_12 rfl (lv_at hl 2 rfl) ?_
      refine lv_bipush (v := nI 15) hC.1 hC.2.1 dX0_ready_13 (by decide) ?_
      refine lv_icmp_le (tgt := 20) hC.1 hC.2.1 dX0_ready_15 (by decide) (fun c2 => ?_) (fun c2 => ?_)
      · obtain ⟨j, hj, rfl⟩ := sg_k15_yes c1 c2
        refine lv_aload_n hC.1 hC.2.1 dX0_ready_20 rfl (lv_at hl 0 rfl) ?_
        refine lv_iload_n hC.1 hC.2.1 dX0_ready_21 rfl (lv_at hl 1 rfl) ?_
        refine lv_iload_n hC.1 hC.2.1 dX0_ready_22 rfl (lv_at hl 2 rfl) ?_
        refine cx_calli (ci := 0) (rest := []) (x_reach l (sq := i) (kq := j) hD hok hi hj) hC hml hl.1 hw rfl (cwV 2 hC.2.2.2 (lw_V q112 q114 qs3 q29 q115) rfl rfl rfl (by decide +kernel) ⟨Nat.le_of_ble_eq_true rfl, Nat.le_of_ble_eq_true rfl⟩) rfl rfl rfl rfl (Nat.le_of_ble_eq_true rfl) dX0_ready_23 ⟨Nat.zero_le _, Nat.zero_le _⟩ (fun r u' H locs hp hw => ?_)
        obtain ⟨nm1, tp1, st1, nu1, sp1, lf1, rt1, bz1, ro1, sk1, hh1, rfl, hG1, hp⟩ := hp
        have hok : xOk (kd, da, db) 1 0 tp1 st1 nu1 sp1 lf1 rt1 bz1 ro1 := ⟨Nat.le_refl 1, fun _ => ⟨rfl, nm1, hG1⟩⟩
        rcases hp with ⟨c1, rfl, h91, hR1⟩ | ⟨rfl, hno1⟩
        · have hv1 := sg_V_some hD hR1.six (hR1.is hD hG1.2.1 h91)
          have hc1 : c1 < 512 := by have := hG1.2.1.top; have := hR1.1; omega
          refine xn_if_lt (tgt := 33) hC (by omega) dX0_ready_26 (by decide) ?_
          refine lv_iconst (v := nI 1) hC.1 hC.2.1 dX0_ready_29 (by decide) ?_
          refine lv_goto (tgt := 34) hC.1 hC.2.1 dX0_ready_30 (by decide) ?_
          exact cx_zret hC hr hk hw (by decide) ⟨⟨rfl, hok⟩, Or.inl ⟨i, j, hi, hj, rfl, rfl, Or.inr ⟨by rw [hv1]; simp, rfl⟩⟩⟩ dX0_ready_34
        · have hv1 := sg_V_none hno1
          refine lv_if_lt (tgt := 33) hC.1 hC.2.1 dX0_ready_26 (by decide) (fun g2 => ?_) (fun g2 => absurd (by decide) g2)
          refine lv_iconst (v := nI 0) hC.1 hC.2.1 dX0_ready_33 (by decide) ?_
          exact cx_zret hC hr hk hw (by decide) ⟨⟨rfl, hok⟩, Or.inl ⟨i, j, hi, hj, rfl, rfl, Or.inl ⟨hv1, rfl⟩⟩⟩ dX0_ready_34
      · refine lv_iconst (v := nI 0) hC.1 hC.2.1 dX0_ready_18 (by decide) ?_
        exact cx_zret hC hr hk hw (by decide) ⟨⟨rfl, hok⟩, Or.inr ⟨fun q => sg_k15_big c2 q.2, rfl⟩⟩ dX0_ready_19
  · refine xn_if_eq (tgt := 18) hC (by omega) dX0_ready_5 (by decide) (fun _ => ?_) (fun c => absurd c (by decide))
    refine lv_iconst (v := nI 0) hC.1 hC.2.1 dX0_ready_18 (by decide) ?_
    exact cx_zret hC hr hk hw (by decide) ⟨⟨rfl, hok⟩, Or.inr ⟨fun q => hq1 q.1, rfl⟩⟩ dX0_ready_19
set_option maxHeartbeats 4000000 in
set_option maxRecDepth 100000 in
/-- asked for an element -/
theorem x_element (l : Launch)  {D : sg_D} {x y : Int32} (hD : sg_Ok D) : cx_Mi l yX0_element cX0_element 4 (some .int) ({ frames := 5, cells := 0, slots := 0, locals := 127 }) xW xT [.int x, .int y] (xSt D) (fun _ r' u' => xSt D u' ∧ sg_El D x y r') := by
  refine cx_Mi.of (by decide) (fun _ => Nat.le_of_ble_eq_true rfl) ?_
  intro p e s m below meth c Dg ad ct A u ls hu hC hml hr hk hw hl
  obtain ⟨kd, da, db, bt, ba, tp, st, nu, sp, lf, rt, bz, mv, ro, sk, hh⟩ := u
  obtain ⟨rfl, hok⟩ := hu
  have hC : cx_C p m c cX0_element s _ RX0 := hC
  have hl : lv_has ls 4 [(0, .ref (ad 0)), (1, .int x), (2, .int y)] := hl
  refine lv_aload_n hC.1 hC.2.1 dX0_element_0 rfl (lv_at hl 0 rfl) ?_
  refine lv_iload_n hC.1 hC.2.1 dX0_element_1 rfl (lv_at hl 1 rfl) ?_
  refine cx_calli (ci := 0) (rest := []) (x_isSequence l (x := x) ) hC hml hl.1 hw rfl (cwV 1 hC.2.2.2 (lw_V q96 q98 qs0 q29 q99) rfl rfl rfl (by decide +kernel) ⟨Nat.le_of_ble_eq_true rfl, Nat.le_of_ble_eq_true rfl⟩) rfl rfl rfl rfl (Nat.le_of_ble_eq_true rfl) dX0_element_2 ⟨Nat.zero_le _, Nat.zero_le _⟩ (fun r u' H locs hp hw => ?_)
  rcases hp with ⟨rfl, rfl, hq1⟩ | ⟨rfl, rfl, hq1⟩
  · obtain ⟨i, hi, rfl⟩ := hq1
    refine xn_if_eq (tgt := 18) hC (by omega) dX0_element_5 (by decide) (fun c => absurd c (by decide)) (fun _ => ?_)
    refine lv_iload_n hC.1 hC.2.1 dX0_element_8 rfl (lv_at hl 2 rfl) ?_
    refine lv_if_lt (tgt := 18) hC.1 hC.2.1 dX0_element_9 (by decide) (fun c1 => ?_) (fun c1 => ?_)
    · refine lv_iconst (v := nI 0) hC.1 hC.2.1 dX0_element_18 (by decide) ?_
      exact cx_iret hC hr hk hw ⟨⟨rfl, hok⟩, Or.inr ⟨fun q => sg_k15_neg c1 q.2, rfl⟩⟩ dX0_element_19
    · refine lv_iload_n hC.1 hC.2.1 dX0_element_12 rfl (lv_at hl 2 rfl) ?_
      refine lv_bipush (v := nI 15) hC.1 hC.2.1 dX0_element_13 (by decide) ?_
      refine lv_icmp_le (tgt := 20) hC.1 hC.2.1 dX0_element_15 (by decide) (fun c2 => ?_) (fun c2 => ?_)
      · obtain ⟨j, hj, rfl⟩ := sg_k15_yes c1 c2
        refine lv_aload_n hC.1 hC.2.1 dX0_element_20 rfl (lv_at hl 0 rfl) ?_
        refine lv_iload_n hC.1 hC.2.1 dX0_element_21 rfl (lv_at hl 1 rfl) ?_
        refine lv_iload_n hC.1 hC.2.1 dX0_element_22 rfl (lv_at hl 2 rfl) ?_
        refine cx_calli (ci := 0) (rest := []) (x_reach l (sq := i) (kq := j) hD hok hi hj) hC hml hl.1 hw rfl (cwV 2 hC.2.2.2 (lw_V q112 q114 qs3 q29 q115) rfl rfl rfl (by decide +kernel) ⟨Nat.le_of_ble_eq_true rfl, Nat.le_of_ble_eq_true rfl⟩) rfl rfl rfl rfl (Nat.le_of_ble_eq_true rfl) dX0_element_23 ⟨Nat.zero_le _, Nat.zero_le _⟩ (fun r u' H locs hp hw => ?_)
        obtain ⟨nm1, tp1, st1, nu1, sp1, lf1, rt1, bz1, ro1, sk1, hh1, rfl, hG1, hp⟩ := hp
        have hok : xOk (kd, da, db) 1 0 tp1 st1 nu1 sp1 lf1 rt1 bz1 ro1 := ⟨Nat.le_refl 1, fun _ => ⟨rfl, nm1, hG1⟩⟩
        rcases hp with ⟨c1, rfl, h91, hR1⟩ | ⟨rfl, hno1⟩
        · have hv1 := sg_V_some hD hR1.six (hR1.is hD hG1.2.1 h91)
          have hc1 : c1 < 512 := by have := hG1.2.1.top; have := hR1.1; omega
          refine lv_istore_n (lv' := [(3, .int (nI c1)), (0, .ref (ad 0)), (1, .int (nI i)), (2, .int (nI j))]) hC.1 hC.2.1 dX0_element_26 rfl hl (by decide) rfl (fun ls hl => ?_)
          refine lv_iload_n hC.1 hC.2.1 dX0_element_27 rfl (lv_at hl 0 rfl) ?_
          refine xn_if_ge (tgt := 35) hC (by omega) dX0_element_28 (by decide) ?_
          refine lv_aload_n hC.1 hC.2.1 dX0_element_35 rfl (lv_at hl 1 rfl) ?_
          refine x_g_number hC hw dX0_element_36 ?_
          refine lv_iload_n hC.1 hC.2.1 dX0_element_39 rfl (lv_at hl 0 rfl) ?_
          refine x_ld_nu (i := c1) hC hw (by omega) dX0_element_40 ?_
          exact cx_iret hC hr hk hw ⟨⟨rfl, hok⟩, Or.inl ⟨i, j, hi, hj, rfl, rfl, by rw [hv1]; rfl⟩⟩ dX0_element_41
        · have hv1 := sg_V_none hno1
          refine lv_istore_n (lv' := [(3, .int (-1)), (0, .ref (ad 0)), (1, .int (nI i)), (2, .int (nI j))]) hC.1 hC.2.1 dX0_element_26 rfl hl (by decide) rfl (fun ls hl => ?_)
          refine lv_iload_n hC.1 hC.2.1 dX0_element_27 rfl (lv_at hl 0 rfl) ?_
          refine lv_if_ge (tgt := 35) hC.1 hC.2.1 dX0_element_28 (by decide) (fun g2 => absurd g2 (by decide)) (fun g2 => ?_)
          refine lv_iconst (v := nI 0) hC.1 hC.2.1 dX0_element_31 (by decide) ?_
          refine lv_goto (tgt := 41) hC.1 hC.2.1 dX0_element_32 (by decide) ?_
          exact cx_iret hC hr hk hw ⟨⟨rfl, hok⟩, Or.inl ⟨i, j, hi, hj, rfl, rfl, by rw [hv1]; rfl⟩⟩ dX0_element_41
      · refine lv_iconst (v := nI 0) hC.1 hC.2.1 dX0_element_18 (by decide) ?_
        exact cx_iret hC hr hk hw ⟨⟨rfl, hok⟩, Or.inr ⟨fun q => sg_k15_big c2 q.2, rfl⟩⟩ dX0_element_19
  · refine xn_if_eq (tgt := 18) hC (by omega) dX0_element_5 (by decide) (fun _ => ?_) (fun c => absurd c (by decide))
    refine lv_iconst (v := nI 0) hC.1 hC.2.1 dX0_element_18 (by decide) ?_
    exact cx_iret hC hr hk hw ⟨⟨rfl, hok⟩, Or.inr ⟨fun q => hq1 q.1, rfl⟩⟩ dX0_element_19
set_option maxHeartbeats 4000000 in
set_option maxRecDepth 100000 in
/-- how many elements there are -/
theorem x_known (l : Launch)  {D : sg_D} {x : Int32} (hD : sg_Ok D) : cx_Mi l yX0_known cX0_known 3 (some .int) ({ frames := 5, cells := 0, slots := 0, locals := 127 }) xW xT [.int x] (xSt D) (fun _ r' u' => xSt D u' ∧ sg_Kn D x r') := by
  refine cx_Mi.of (by decide) (fun _ => Nat.le_of_ble_eq_true rfl) ?_
  intro p e s m below meth c Dg ad ct A u ls hu hC hml hr hk hw hl
  obtain ⟨kd, da, db, bt, ba, tp, st, nu, sp, lf, rt, bz, mv, ro, sk, hh⟩ := u
  obtain ⟨rfl, hok⟩ := hu
  have hC : cx_C p m c cX0_known s _ RX0 := hC
  have hl : lv_has ls 3 [(0, .ref (ad 0)), (1, .int x)] := hl
  refine lv_aload_n hC.1 hC.2.1 dX0_known_0 rfl (lv_at hl 0 rfl) ?_
  refine lv_iload_n hC.1 hC.2.1 dX0_known_1 rfl (lv_at hl 1 rfl) ?_
  refine cx_calli (ci := 0) (rest := []) (x_isSequence l (x := x) ) hC hml hl.1 hw rfl (cwV 1 hC.2.2.2 (lw_V q96 q98 qs0 q29 q99) rfl rfl rfl (by decide +kernel) ⟨Nat.le_of_ble_eq_true rfl, Nat.le_of_ble_eq_true rfl⟩) rfl rfl rfl rfl (Nat.le_of_ble_eq_true rfl) dX0_known_2 ⟨Nat.zero_le _, Nat.zero_le _⟩ (fun r u' H locs hp hw => ?_)
  rcases hp with ⟨rfl, rfl, hq1⟩ | ⟨rfl, rfl, hq1⟩
  · obtain ⟨i, hi, rfl⟩ := hq1
    refine xn_if_ne (tgt := 10) hC (by omega) dX0_known_5 (by decide) (fun _ => ?_) (fun c => absurd c (by decide))
    refine lv_iconst (v := nI 0) hC.1 hC.2.1 dX0_known_10 (by decide) ?_
    refine lv_istore_n (lv' := [(2, .int (nI 0)), (0, .ref (ad 0)), (1, .int (nI i))]) hC.1 hC.2.1 dX0_known_11 rfl hl (by decide) rfl (fun ls hl => ?_)
    have loop : ∀ (n : Nat) (k : Nat) (bt ba tp : Nat) (st : Nat → Nat) (nu sp : Nat → Int32) (lf rt bz ro sk : Nat → Nat) (hh : Nat), k ≤ 16 → 17 ≤ k + n → (∀ q, q < k → sg_V (kd, da, db) i q ≠ none) → xOk (kd, da, db) bt ba tp st nu sp lf rt bz ro → ∀ (H : Heap) (locs : List Loc) (ls : Array Slot), cx_W Dg (xT ct) A s s.heap H locs (xW ad ct (kd, da, db, bt, ba, tp, st, nu, sp, lf, rt, bz, mv, ro, sk, hh)) → lv_has ls 3 [(2, .int (nI k)), (1, .int (nI i)), (0, .ref (ad 0))] → W p l e ({ frames := 5, cells := 0, slots := 0, locals := 127 }) s m ([.ref (ad 0), .int (nI i)] : List Value).toArray below meth c H locs 0 0 (MQ below (va_Qi (fun r' u' => xSt (kd, da, db) u' ∧ sg_Kn (kd, da, db) (nI i) r') (cx_B Dg (xT ct) (xW ad ct) A) A) ([.ref (ad 0), .int (nI i)] : List Value).toArray s 0 0 A) (F0 m 12 ls []) := by
      intro n
      induction n with
      | zero =>
        intro k bt ba tp st nu sp lf rt bz ro sk hh hk16 hn hV hok
        exact absurd hn (by omega)
      | succ n ih =>
        intro k bt ba tp st nu sp lf rt bz ro sk hh hk16 hn hV hok H locs ls hw hl
        refine lv_iload_n hC.1 hC.2.1 dX0_known_12 rfl (lv_at hl 0 rfl) ?_
        refine lv_bipush (v := nI 16) hC.1 hC.2.1 dX0_known_13 (by decide) ?_
        refine xn_icmp_ge (tgt := 33) hC (by omega) (by omega) dX0_known_15 (by decide) (fun c1 => ?_) (fun c1 => ?_)
        · refine lv_iload_n hC.1 hC.2.1 dX0_known_33 rfl (lv_at hl 0 rfl) ?_
          exact cx_iret hC hr hk hw ⟨⟨rfl, hok⟩, Or.inl ⟨i, hi, rfl, by rw [sg_kn_all 16 (fun q hq => hV q (by omega)), show k = 16 by omega]⟩⟩ dX0_known_34
        · refine lv_aload_n hC.1 hC.2.1 dX0_known_18 rfl (lv_at hl 2 rfl) ?_
          refine lv_iload_n hC.1 hC.2.1 dX0_known_19 rfl (lv_at hl 1 rfl) ?_
          refine lv_iload_n hC.1 hC.2.1 dX0_known_20 rfl (lv_at hl 0 rfl) ?_
          refine cx_calli (ci := 0) (rest := []) (x_reach l (sq := i) (kq := k) hD hok hi (by omega)) hC hml hl.1 hw rfl (cwV 2 hC.2.2.2 (lw_V q112 q114 qs3 q29 q115) rfl rfl rfl (by decide +kernel) ⟨Nat.le_of_ble_eq_true rfl, Nat.le_of_ble_eq_true rfl⟩) rfl rfl rfl rfl (Nat.le_of_ble_eq_true rfl) dX0_known_21 ⟨Nat.zero_le _, Nat.zero_le _⟩ (fun r u' H locs hp hw => ?_)
          obtain ⟨nm1, tp1, st1, nu1, sp1, lf1, rt1, bz1, ro1, sk1, hh1, rfl, hG1, hp⟩ := hp
          have hok : xOk (kd, da, db) 1 0 tp1 st1 nu1 sp1 lf1 rt1 bz1 ro1 := ⟨Nat.le_refl 1, fun _ => ⟨rfl, nm1, hG1⟩⟩
          rcases hp with ⟨c1, rfl, h91, hR1⟩ | ⟨rfl, hno1⟩
          · have hv1 := sg_V_some hD hR1.six (hR1.is hD hG1.2.1 h91)
            have hc1 : c1 < 512 := by have := hG1.2.1.top; have := hR1.1; omega
            refine xn_if_lt (tgt := 33) hC (by omega) dX0_known_24 (by decide) ?_
            refine lv_iinc (v := nI (k + 1)) (lv' := [(2, .int (nI (k + 1))), (1, .int (nI i)), (0, .ref (ad 0))]) hC.1 hC.2.1 dX0_known_27 hl (k := 0) rfl (xn_inc _) (by decide) rfl (fun ls hl => ?_)
            refine lv_goto (tgt := 12) hC.1 hC.2.1 dX0_known_30 (by decide) ?_
            exact ih (k + 1) _ _ _ _ _ _ _ _ _ _ _ _ (by omega) (by omega) (fun q hq => by rcases Nat.lt_or_ge q k with z | z; exact hV q z; rw [show q = k by omega, hv1]; simp) hok H locs ls hw (lv_sub hl [0, 1, 2] rfl)
          · have hv1 := sg_V_none hno1
            refine lv_if_lt (tgt := 33) hC.1 hC.2.1 dX0_known_24 (by decide) (fun g2 => ?_) (fun g2 => absurd (by decide) g2)
            refine lv_iload_n hC.1 hC.2.1 dX0_known_33 rfl (lv_at hl 0 rfl) ?_
            exact cx_iret hC hr hk hw ⟨⟨rfl, hok⟩, Or.inl ⟨i, hi, rfl, by rw [show 16 = k + (16 - k) by omega, sg_kn_stop hV (fun q hq => sg_V_up hD hi hq hv1)]⟩⟩ dX0_known_34
    exact loop 17 0 bt ba tp st nu sp lf rt bz ro sk hh (by omega) (by omega) (fun q hq => absurd hq (by omega)) hok H locs ls hw (lv_sub hl [0, 2, 1] rfl)
  · refine xn_if_ne (tgt := 10) hC (by omega) dX0_known_5 (by decide) (fun c => absurd c (by decide)) (fun _ => ?_)
    refine lv_iconst (v := (-1)) hC.1 hC.2.1 dX0_known_8 (by decide) ?_
    exact cx_iret hC hr hk hw ⟨⟨rfl, hok⟩, Or.inr ⟨hq1, rfl⟩⟩ dX0_known_9
theorem sg_ab_none {V : Nat → Option Int32} {v : Int32} {k : Nat} (h : V k = none) : ¬ sg_above V v k := by
  rintro ⟨w, hw, -⟩
  rw [h] at hw
  exact absurd hw (by simp)
theorem sg_ab_no {V : Nat → Option Int32} {v w : Int32} {k : Nat} (h : V k = some w) (hle : w ≤ v) : ¬ sg_above V v k := by
  rintro ⟨w', hw, hlt⟩
  rw [h] at hw
  rw [← Option.some.inj hw] at hlt
  exact absurd hlt (Int32.not_lt.mpr hle)
set_option maxHeartbeats 4000000 in
set_option maxRecDepth 100000 in
/-- the first element above v -/
theorem x_firstAbove (l : Launch)  {D : sg_D} {x v : Int32} (hD : sg_Ok D) : cx_Mi l yX0_firstAbove cX0_firstAbove 5 (some .int) ({ frames := 5, cells := 0, slots := 0, locals := 127 }) xW xT [.int x, .int v] (xSt D) (fun _ r' u' => xSt D u' ∧ sg_Fa D x v r') := by
  refine cx_Mi.of (by decide) (fun _ => Nat.le_of_ble_eq_true rfl) ?_
  intro p e s m below meth c Dg ad ct A u ls hu hC hml hr hk hw hl
  obtain ⟨kd, da, db, bt, ba, tp, st, nu, sp, lf, rt, bz, mv, ro, sk, hh⟩ := u
  obtain ⟨rfl, hok⟩ := hu
  have hC : cx_C p m c cX0_firstAbove s _ RX0 := hC
  have hl : lv_has ls 5 [(0, .ref (ad 0)), (1, .int x), (2, .int v)] := hl
  refine lv_aload_n hC.1 hC.2.1 dX0_firstAbove_0 rfl (lv_at hl 0 rfl) ?_
  refine lv_iload_n hC.1 hC.2.1 dX0_firstAbove_1 rfl (lv_at hl 1 rfl) ?_
  refine cx_calli (ci := 0) (rest := []) (x_isSequence l (x := x) ) hC hml hl.1 hw rfl (cwV 1 hC.2.2.2 (lw_V q96 q98 qs0 q29 q99) rfl rfl rfl (by decide +kernel) ⟨Nat.le_of_ble_eq_true rfl, Nat.le_of_ble_eq_true rfl⟩) rfl rfl rfl rfl (Nat.le_of_ble_eq_true rfl) dX0_firstAbove_2 ⟨Nat.zero_le _, Nat.zero_le _⟩ (fun r u' H locs hp hw => ?_)
  rcases hp with ⟨rfl, rfl, hq1⟩ | ⟨rfl, rfl, hq1⟩
  · obtain ⟨i, hi, rfl⟩ := hq1
    refine xn_if_ne (tgt := 10) hC (by omega) dX0_firstAbove_5 (by decide) (fun _ => ?_) (fun c => absurd c (by decide))
    refine lv_iconst (v := nI 0) hC.1 hC.2.1 dX0_firstAbove_10 (by decide) ?_
    refine lv_istore_n (lv' := [(3, .int (nI 0)), (0, .ref (ad 0)), (1, .int (nI i)), (2, .int v)]) hC.1 hC.2.1 dX0_firstAbove_11 rfl hl (by decide) rfl (fun ls hl => ?_)
    have loop : ∀ (n : Nat) (k : Nat) (bt ba tp : Nat) (st : Nat → Nat) (nu sp : Nat → Int32) (lf rt bz ro sk : Nat → Nat) (hh : Nat), k ≤ 16 → 17 ≤ k + n → (∀ q, q < k → ¬ sg_above (sg_V (kd, da, db) i) v q) → xOk (kd, da, db) bt ba tp st nu sp lf rt bz ro → ∀ (H : Heap) (locs : List Loc) (ls : Array Slot), cx_W Dg (xT ct) A s s.heap H locs (xW ad ct (kd, da, db, bt, ba, tp, st, nu, sp, lf, rt, bz, mv, ro, sk, hh)) → lv_has ls 5 [(3, .int (nI k)), (2, .int v), (1, .int (nI i)), (0, .ref (ad 0))] → W p l e ({ frames := 5, cells := 0, slots := 0, locals := 127 }) s m ([.ref (ad 0), .int (nI i), .int v] : List Value).toArray below meth c H locs 0 0 (MQ below (va_Qi (fun r' u' => xSt (kd, da, db) u' ∧ sg_Fa (kd, da, db) (nI i) v r') (cx_B Dg (xT ct) (xW ad ct) A) A) ([.ref (ad 0), .int (nI i), .int v] : List Value).toArray s 0 0 A) (F0 m 12 ls []) := by
      intro n
      induction n with
      | zero =>
        intro k bt ba tp st nu sp lf rt bz ro sk hh hk16 hn hV hok
        exact absurd hn (by omega)
      | succ n ih =>
        intro k bt ba tp st nu sp lf rt bz ro sk hh hk16 hn hV hok H locs ls hw hl
        refine lv_iload_n hC.1 hC.2.1 dX0_firstAbove_12 rfl (lv_at hl 0 rfl) ?_
        refine lv_bipush (v := nI 16) hC.1 hC.2.1 dX0_firstAbove_13 (by decide) ?_
        refine xn_icmp_ge (tgt := 53) hC (by omega) (by omega) dX0_firstAbove_15 (by decide) (fun c1 => ?_) (fun c1 => ?_)
        · refine lv_bipush (v := (-2)) hC.1 hC.2.1 dX0_firstAbove_53 (by decide) ?_
          exact cx_iret hC hr hk hw ⟨⟨rfl, hok⟩, Or.inl ⟨i, hi, rfl, Or.inr ⟨rfl, fun q hq => hV q (by omega)⟩⟩⟩ dX0_firstAbove_55
        · refine lv_aload_n hC.1 hC.2.1 dX0_firstAbove_18 rfl (lv_at hl 3 rfl) ?_
          refine lv_iload_n hC.1 hC.2.1 dX0_firstAbove_19 rfl (lv_at hl 2 rfl) ?_
          refine lv_iload_n hC.1 hC.2.1 dX0_firstAbove_20 rfl (lv_at hl 0 rfl) ?_
          refine cx_calli (ci := 0) (rest := []) (x_reach l (sq := i) (kq := k) hD hok hi (by omega)) hC hml hl.1 hw rfl (cwV 2 hC.2.2.2 (lw_V q112 q114 qs3 q29 q115) rfl rfl rfl (by decide +kernel) ⟨Nat.le_of_ble_eq_true rfl, Nat.le_of_ble_eq_true rfl⟩) rfl rfl rfl rfl (Nat.le_of_ble_eq_true rfl) dX0_firstAbove_21 ⟨Nat.zero_le _, Nat.zero_le _⟩ (fun r u' H locs hp hw => ?_)
          obtain ⟨nm1, tp1, st1, nu1, sp1, lf1, rt1, bz1, ro1, sk1, hh1, rfl, hG1, hp⟩ := hp
          have hok : xOk (kd, da, db) 1 0 tp1 st1 nu1 sp1 lf1 rt1 bz1 ro1 := ⟨Nat.le_refl 1, fun _ => ⟨rfl, nm1, hG1⟩⟩
          rcases hp with ⟨c1, rfl, h91, hR1⟩ | ⟨rfl, hno1⟩
          · have hv1 := sg_V_some hD hR1.six (hR1.is hD hG1.2.1 h91)
            have hc1 : c1 < 512 := by have := hG1.2.1.top; have := hR1.1; omega
            refine lv_istore (lv' := [(4, .int (nI c1)), (3, .int (nI k)), (2, .int v), (1, .int (nI i)), (0, .ref (ad 0))]) hC.1 hC.2.1 dX0_firstAbove_24 hl (by decide) rfl (fun ls hl => ?_)
            refine lv_iload hC.1 hC.2.1 dX0_firstAbove_26 (lv_at hl 0 rfl) ?_
            refine xn_if_ge (tgt := 34) hC (by omega) dX0_firstAbove_28 (by decide) ?_
            refine lv_aload_n hC.1 hC.2.1 dX0_firstAbove_34 rfl (lv_at hl 4 rfl) ?_
            refine x_g_number hC hw dX0_firstAbove_35 ?_
            refine lv_iload hC.1 hC.2.1 dX0_firstAbove_38 (lv_at hl 0 rfl) ?_
            refine x_ld_nu (i := c1) hC hw (by omega) dX0_firstAbove_40 ?_
            refine lv_iload_n hC.1 hC.2.1 dX0_firstAbove_41 rfl (lv_at hl 2 rfl) ?_
            refine lv_icmp_le (tgt := 47) hC.1 hC.2.1 dX0_firstAbove_42 (by decide) (fun c2 => ?_) (fun c2 => ?_)
            · refine lv_iinc (v := nI (k + 1)) (lv' := [(3, .int (nI (k + 1))), (4, .int (nI c1)), (2, .int v), (1, .int (nI i)), (0, .ref (ad 0))]) hC.1 hC.2.1 dX0_firstAbove_47 hl (k := 1) rfl (xn_inc _) (by decide) rfl (fun ls hl => ?_)
              refine lv_goto (tgt := 12) hC.1 hC.2.1 dX0_firstAbove_50 (by decide) ?_
              exact ih (k + 1) _ _ _ _ _ _ _ _ _ _ _ _ (by omega) (by omega) (fun q hq => by rcases Nat.lt_or_ge q k with z | z; exact hV q z; rw [show q = k by omega]; exact sg_ab_no hv1 c2) hok H locs ls hw (lv_sub hl [0, 2, 3, 4] rfl)
            · refine lv_iload_n hC.1 hC.2.1 dX0_firstAbove_45 rfl (lv_at hl 1 rfl) ?_
              exact cx_iret hC hr hk hw ⟨⟨rfl, hok⟩, Or.inl ⟨i, hi, rfl, Or.inl ⟨k, by omega, rfl, ⟨_, hv1, Int32.not_le.mp c2⟩, hV⟩⟩⟩ dX0_firstAbove_46
          · have hv1 := sg_V_none hno1
            refine lv_istore (lv' := [(4, .int (-1)), (3, .int (nI k)), (2, .int v), (1, .int (nI i)), (0, .ref (ad 0))]) hC.1 hC.2.1 dX0_firstAbove_24 hl (by decide) rfl (fun ls hl => ?_)
            refine lv_iload hC.1 hC.2.1 dX0_firstAbove_26 (lv_at hl 0 rfl) ?_
            refine lv_if_ge (tgt := 34) hC.1 hC.2.1 dX0_firstAbove_28 (by decide) (fun g2 => absurd g2 (by decide)) (fun g2 => ?_)
            refine lv_bipush (v := (-2)) hC.1 hC.2.1 dX0_firstAbove_31 (by decide) ?_
            exact cx_iret hC hr hk hw ⟨⟨rfl, hok⟩, Or.inl ⟨i, hi, rfl, Or.inr ⟨rfl, fun q hq => by rcases Nat.lt_or_ge q k with z | z; exact hV q z; exact sg_ab_none (sg_V_up hD hi z hv1)⟩⟩⟩ dX0_firstAbove_33
    exact loop 17 0 bt ba tp st nu sp lf rt bz ro sk hh (by omega) (by omega) (fun q hq => absurd hq (by omega)) hok H locs ls hw (lv_sub hl [0, 3, 2, 1] rfl)
  · refine xn_if_ne (tgt := 10) hC (by omega) dX0_firstAbove_5 (by decide) (fun c => absurd c (by decide)) (fun _ => ?_)
    refine lv_iconst (v := (-1)) hC.1 hC.2.1 dX0_firstAbove_8 (by decide) ?_
    exact cx_iret hC hr hk hw ⟨⟨rfl, hok⟩, Or.inr ⟨hq1, rfl⟩⟩ dX0_firstAbove_9
set_option maxHeartbeats 4000000 in
set_option maxRecDepth 100000 in
/-- how many elements are the same -/
theorem x_agree (l : Launch)  {D : sg_D} {x y : Int32} (hD : sg_Ok D) : cx_Mi l yX0_agree cX0_agree 8 (some .int) ({ frames := 5, cells := 0, slots := 0, locals := 127 }) xW xT [.int x, .int y] (xSt D) (fun _ r' u' => xSt D u' ∧ sg_Ag D x y r') := by
  refine cx_Mi.of (by decide) (fun _ => Nat.le_of_ble_eq_true rfl) ?_
  intro p e s m below meth c Dg ad ct A u ls hu hC hml hr hk hw hl
  obtain ⟨kd, da, db, bt, ba, tp, st, nu, sp, lf, rt, bz, mv, ro, sk, hh⟩ := u
  obtain ⟨rfl, hok⟩ := hu
  have hC : cx_C p m c cX0_agree s _ RX0 := hC
  have hl : lv_has ls 8 [(0, .ref (ad 0)), (1, .int x), (2, .int y)] := hl
  refine lv_aload_n hC.1 hC.2.1 dX0_agree_0 rfl (lv_at hl 0 rfl) ?_
  refine lv_iload_n hC.1 hC.2.1 dX0_agree_1 rfl (lv_at hl 1 rfl) ?_
  refine cx_calli (ci := 0) (rest := []) (x_isSequence l (x := x) ) hC hml hl.1 hw rfl (cwV 1 hC.2.2.2 (lw_V q96 q98 qs0 q29 q99) rfl rfl rfl (by decide +kernel) ⟨Nat.le_of_ble_eq_true rfl, Nat.le_of_ble_eq_true rfl⟩) rfl rfl rfl rfl (Nat.le_of_ble_eq_true rfl) dX0_agree_2 ⟨Nat.zero_le _, Nat.zero_le _⟩ (fun r u' H locs hp hw => ?_)
  rcases hp with ⟨rfl, rfl, hq1⟩ | ⟨rfl, rfl, hq1⟩
  · obtain ⟨i, hi, rfl⟩ := hq1
    refine xn_if_eq (tgt := 16) hC (by omega) dX0_agree_5 (by decide) (fun c => absurd c (by decide)) (fun _ => ?_)
    refine lv_aload_n hC.1 hC.2.1 dX0_agree_8 rfl (lv_at hl 0 rfl) ?_
    refine lv_iload_n hC.1 hC.2.1 dX0_agree_9 rfl (lv_at hl 2 rfl) ?_
    refine cx_calli (ci := 0) (rest := []) (x_isSequence l (x := y) ) hC hml hl.1 hw rfl (cwV 1 hC.2.2.2 (lw_V q96 q98 qs0 q29 q99) rfl rfl rfl (by decide +kernel) ⟨Nat.le_of_ble_eq_true rfl, Nat.le_of_ble_eq_true rfl⟩) rfl rfl rfl rfl (Nat.le_of_ble_eq_true rfl) dX0_agree_10 ⟨Nat.zero_le _, Nat.zero_le _⟩ (fun r u' H locs hp hw => ?_)
    rcases hp with ⟨rfl, rfl, hq2⟩ | ⟨rfl, rfl, hq2⟩
    · obtain ⟨j, hj, rfl⟩ := hq2
      refine xn_if_ne (tgt := 18) hC (by omega) dX0_agree_13 (by decide) (fun _ => ?_) (fun c => absurd c (by decide))
      refine lv_iconst (v := nI 0) hC.1 hC.2.1 dX0_agree_18 (by decide) ?_
      refine lv_istore_n (lv' := [(3, .int (nI 0)), (0, .ref (ad 0)), (1, .int (nI i)), (2, .int (nI j))]) hC.1 hC.2.1 dX0_agree_19 rfl hl (by decide) rfl (fun ls hl => ?_)
      refine lv_iconst (v := nI 0) hC.1 hC.2.1 dX0_agree_20 (by decide) ?_
      refine lv_istore (lv' := [(4, .int (nI 0)), (3, .int (nI 0)), (0, .ref (ad 0)), (1, .int (nI i)), (2, .int (nI j))]) hC.1 hC.2.1 dX0_agree_21 hl (by decide) rfl (fun ls hl => ?_)
      have loop : ∀ (n : Nat) (k t : Nat) (bt ba tp : Nat) (st : Nat → Nat) (nu sp : Nat → Int32) (lf rt bz ro sk : Nat → Nat) (hh : Nat), k ≤ 16 → 17 ≤ k + n → t = sg_ag (sg_V (kd, da, db) i) (sg_V (kd, da, db) j) k → xOk (kd, da, db) bt ba tp st nu sp lf rt bz ro → ∀ (H : Heap) (locs : List Loc) (ls : Array Slot), cx_W Dg (xT ct) A s s.heap H locs (xW ad ct (kd, da, db, bt, ba, tp, st, nu, sp, lf, rt, bz, mv, ro, sk, hh)) → lv_has ls 8 [(4, .int (nI k)), (3, .int (nI t)), (2, .int (nI j)), (1, .int (nI i)), (0, .ref (ad 0))] → W p l e ({ frames := 5, cells := 0, slots := 0, locals := 127 }) s m ([.ref (ad 0), .int (nI i), .int (nI j)] : List Value).toArray below meth c H locs 0 0 (MQ below (va_Qi (fun r' u' => xSt (kd, da, db) u' ∧ sg_Ag (kd, da, db) (nI i) (nI j) r') (cx_B Dg (xT ct) (xW ad ct) A) A) ([.ref (ad 0), .int (nI i), .int (nI j)] : List Value).toArray s 0 0 A) (F0 m 23 ls []) := by
        intro n
        induction n with
        | zero =>
          intro k t bt ba tp st nu sp lf rt bz ro sk hh hk16 hn ht hok
          exact absurd hn (by omega)
        | succ n ih =>
          intro k t bt ba tp st nu sp lf rt bz ro sk hh hk16 hn ht hok H locs ls hw hl
          refine lv_iload hC.1 hC.2.1 dX0_agree_23 (lv_at hl 0 rfl) ?_
          refine lv_bipush (v := nI 16) hC.1 hC.2.1 dX0_agree_25 (by decide) ?_
          refine xn_icmp_ge (tgt := 92) hC (by omega) (by omega) dX0_agree_27 (by decide) (fun c1 => ?_) (fun c1 => ?_)
          · refine lv_iload_n hC.1 hC.2.1 dX0_agree_92 rfl (lv_at hl 1 rfl) ?_
            exact cx_iret hC hr hk hw ⟨⟨rfl, hok⟩, Or.inl ⟨i, j, hi, hj, rfl, rfl, by rw [ht, show k = 16 by omega]⟩⟩ dX0_agree_93
          · refine lv_aload_n hC.1 hC.2.1 dX0_agree_30 rfl (lv_at hl 4 rfl) ?_
            refine lv_iload_n hC.1 hC.2.1 dX0_agree_31 rfl (lv_at hl 3 rfl) ?_
            refine lv_iload hC.1 hC.2.1 dX0_agree_32 (lv_at hl 0 rfl) ?_
            refine cx_calli (ci := 0) (rest := []) (x_reach l (sq := i) (kq := k) hD hok hi (by omega)) hC hml hl.1 hw rfl (cwV 2 hC.2.2.2 (lw_V q112 q114 qs3 q29 q115) rfl rfl rfl (by decide +kernel) ⟨Nat.le_of_ble_eq_true rfl, Nat.le_of_ble_eq_true rfl⟩) rfl rfl rfl rfl (Nat.le_of_ble_eq_true rfl) dX0_agree_34 ⟨Nat.zero_le _, Nat.zero_le _⟩ (fun r u' H locs hp hw => ?_)
            obtain ⟨nm1, tp1, st1, nu1, sp1, lf1, rt1, bz1, ro1, sk1, hh1, rfl, hG1, hp⟩ := hp
            have hok : xOk (kd, da, db) 1 0 tp1 st1 nu1 sp1 lf1 rt1 bz1 ro1 := ⟨Nat.le_refl 1, fun _ => ⟨rfl, nm1, hG1⟩⟩
            rcases hp with ⟨c1, rfl, h91, hR1⟩ | ⟨rfl, hno1⟩
            · have hv1 := sg_V_some hD hR1.six (hR1.is hD hG1.2.1 h91)
              have hc1 : c1 < 512 := by have := hG1.2.1.top; have := hR1.1; omega
              refine lv_istore (lv' := [(5, .int (nI c1)), (4, .int (nI k)), (3, .int (nI t)), (2, .int (nI j)), (1, .int (nI i)), (0, .ref (ad 0))]) hC.1 hC.2.1 dX0_agree_37 hl (by decide) rfl (fun ls hl => ?_)
              refine lv_iload hC.1 hC.2.1 dX0_agree_39 (lv_at hl 0 rfl) ?_
              refine xn_if_ge (tgt := 46) hC (by omega) dX0_agree_41 (by decide) ?_
              refine lv_aload_n hC.1 hC.2.1 dX0_agree_46 rfl (lv_at hl 5 rfl) ?_
              refine x_g_number hC hw dX0_agree_47 ?_
              refine lv_iload hC.1 hC.2.1 dX0_agree_50 (lv_at hl 0 rfl) ?_
              refine x_ld_nu (i := c1) hC hw (by omega) dX0_agree_52 ?_
              refine lv_istore (lv' := [(6, .int (nu1 c1)), (5, .int (nI c1)), (4, .int (nI k)), (3, .int (nI t)), (2, .int (nI j)), (1, .int (nI i)), (0, .ref (ad 0))]) hC.1 hC.2.1 dX0_agree_53 hl (by decide) rfl (fun ls hl => ?_)
              refine lv_aload_n hC.1 hC.2.1 dX0_agree_55 rfl (lv_at hl 6 rfl) ?_
              refine lv_iload_n hC.1 hC.2.1 dX0_agree_56 rfl (lv_at hl 4 rfl) ?_
              refine lv_iload hC.1 hC.2.1 dX0_agree_57 (lv_at hl 2 rfl) ?_
              refine cx_calli (ci := 0) (rest := []) (x_reach l (sq := j) (kq := k) hD hok hj (by omega)) hC hml hl.1 hw rfl (cwV 2 hC.2.2.2 (lw_V q112 q114 qs3 q29 q115) rfl rfl rfl (by decide +kernel) ⟨Nat.le_of_ble_eq_true rfl, Nat.le_of_ble_eq_true rfl⟩) rfl rfl rfl rfl (Nat.le_of_ble_eq_true rfl) dX0_agree_59 ⟨Nat.zero_le _, Nat.zero_le _⟩ (fun r u' H locs hp hw => ?_)
              obtain ⟨nm2, tp2, st2, nu2, sp2, lf2, rt2, bz2, ro2, sk2, hh2, rfl, hG2, hp⟩ := hp
              have hok : xOk (kd, da, db) 1 0 tp2 st2 nu2 sp2 lf2 rt2 bz2 ro2 := ⟨Nat.le_refl 1, fun _ => ⟨rfl, nm2, hG2⟩⟩
              rcases hp with ⟨c2, rfl, h92, hR2⟩ | ⟨rfl, hno2⟩
              · have hv2 := sg_V_some hD hR2.six (hR2.is hD hG2.2.1 h92)
                have hc2 : c2 < 512 := by have := hG2.2.1.top; have := hR2.1; omega
                refine lv_istore (lv' := [(7, .int (nI c2)), (6, .int (nu1 c1)), (5, .int (nI c1)), (4, .int (nI k)), (3, .int (nI t)), (2, .int (nI j)), (1, .int (nI i)), (0, .ref (ad 0))]) hC.1 hC.2.1 dX0_agree_62 hl (by decide) rfl (fun ls hl => ?_)
                refine lv_iload hC.1 hC.2.1 dX0_agree_64 (lv_at hl 0 rfl) ?_
                refine xn_if_ge (tgt := 71) hC (by omega) dX0_agree_66 (by decide) ?_
                refine lv_aload_n hC.1 hC.2.1 dX0_agree_71 rfl (lv_at hl 7 rfl) ?_
                refine x_g_number hC hw dX0_agree_72 ?_
                refine lv_iload hC.1 hC.2.1 dX0_agree_75 (lv_at hl 0 rfl) ?_
                refine x_ld_nu (i := c2) hC hw (by omega) dX0_agree_77 ?_
                refine lv_iload hC.1 hC.2.1 dX0_agree_78 (lv_at hl 1 rfl) ?_
                refine lv_icmp_ne (tgt := 86) hC.1 hC.2.1 dX0_agree_80 (by decide) (fun e2 => ?_) (fun e2 => ?_)
                · refine lv_iinc (v := nI (k + 1)) (lv' := [(4, .int (nI (k + 1))), (7, .int (nI c2)), (6, .int (nu1 c1)), (5, .int (nI c1)), (3, .int (nI t)), (2, .int (nI j)), (1, .int (nI i)), (0, .ref (ad 0))]) hC.1 hC.2.1 dX0_agree_86 hl (k := 3) rfl (xn_inc _) (by decide) rfl (fun ls hl => ?_)
                  refine lv_goto (tgt := 23) hC.1 hC.2.1 dX0_agree_89 (by decide) ?_
                  exact ih (k + 1) t _ _ _ _ _ _ _ _ _ _ _ _ (by omega) (by omega) (by unfold sg_ag; rw [if_neg (by rw [hv1, hv2]; rintro ⟨-, z⟩; exact e2 (Option.some.inj z).symm), ht, Nat.add_zero]) hok H locs ls hw (lv_sub hl [0, 4, 5, 6, 7] rfl)
                · refine lv_iinc (v := nI (t + 1)) (lv' := [(3, .int (nI (t + 1))), (7, .int (nI c2)), (6, .int (nu1 c1)), (5, .int (nI c1)), (4, .int (nI k)), (2, .int (nI j)), (1, .int (nI i)), (0, .ref (ad 0))]) hC.1 hC.2.1 dX0_agree_83 hl (k := 4) rfl (xn_inc _) (by decide) rfl (fun ls hl => ?_)
                  refine lv_iinc (v := nI (k + 1)) (lv' := [(4, .int (nI (k + 1))), (3, .int (nI (t + 1))), (7, .int (nI c2)), (6, .int (nu1 c1)), (5, .int (nI c1)), (2, .int (nI j)), (1, .int (nI i)), (0, .ref (ad 0))]) hC.1 hC.2.1 dX0_agree_86 hl (k := 4) rfl (xn_inc _) (by decide) rfl (fun ls hl => ?_)
                  refine lv_goto (tgt := 23) hC.1 hC.2.1 dX0_agree_89 (by decide) ?_
                  exact ih (k + 1) (t + 1) _ _ _ _ _ _ _ _ _ _ _ _ (by omega) (by omega) (by unfold sg_ag; rw [if_pos (by rw [hv1, hv2]; exact ⟨by simp, by rw [e2]⟩), ht]) hok H locs ls hw (lv_sub hl [0, 1, 5, 6, 7] rfl)
              · have hv2 := sg_V_none hno2
                refine lv_istore (lv' := [(7, .int (-1)), (6, .int (nu1 c1)), (5, .int (nI c1)), (4, .int (nI k)), (3, .int (nI t)), (2, .int (nI j)), (1, .int (nI i)), (0, .ref (ad 0))]) hC.1 hC.2.1 dX0_agree_62 hl (by decide) rfl (fun ls hl => ?_)
                refine lv_iload hC.1 hC.2.1 dX0_agree_64 (lv_at hl 0 rfl) ?_
                refine lv_if_ge (tgt := 71) hC.1 hC.2.1 dX0_agree_66 (by decide) (fun g3 => absurd g3 (by decide)) (fun g3 => ?_)
                refine lv_iload_n hC.1 hC.2.1 dX0_agree_69 rfl (lv_at hl 4 rfl) ?_
                exact cx_iret hC hr hk hw ⟨⟨rfl, hok⟩, Or.inl ⟨i, j, hi, hj, rfl, rfl, by rw [ht, show 16 = k + (16 - k) by omega, sg_ag_stop (fun q hq => Or.inr (sg_V_up hD hj hq hv2))]⟩⟩ dX0_agree_70
            · have hv1 := sg_V_none hno1
              refine lv_istore (lv' := [(5, .int (-1)), (4, .int (nI k)), (3, .int (nI t)), (2, .int (nI j)), (1, .int (nI i)), (0, .ref (ad 0))]) hC.1 hC.2.1 dX0_agree_37 hl (by decide) rfl (fun ls hl => ?_)
              refine lv_iload hC.1 hC.2.1 dX0_agree_39 (lv_at hl 0 rfl) ?_
              refine lv_if_ge (tgt := 46) hC.1 hC.2.1 dX0_agree_41 (by decide) (fun g4 => absurd g4 (by decide)) (fun g4 => ?_)
              refine lv_iload_n hC.1 hC.2.1 dX0_agree_44 rfl (lv_at hl 2 rfl) ?_
              exact cx_iret hC hr hk hw ⟨⟨rfl, hok⟩, Or.inl ⟨i, j, hi, hj, rfl, rfl, by rw [ht, show 16 = k + (16 - k) by omega, sg_ag_stop (fun q hq => Or.inl (sg_V_up hD hi hq hv1))]⟩⟩ dX0_agree_45
      exact loop 17 0 0 bt ba tp st nu sp lf rt bz ro sk hh (by omega) (by omega) rfl hok H locs ls hw (lv_sub hl [0, 1, 4, 3, 2] rfl)
    · refine xn_if_ne (tgt := 18) hC (by omega) dX0_agree_13 (by decide) (fun c => absurd c (by decide)) (fun _ => ?_)
      refine lv_iconst (v := (-1)) hC.1 hC.2.1 dX0_agree_16 (by decide) ?_
      exact cx_iret hC hr hk hw ⟨⟨rfl, hok⟩, Or.inr ⟨fun q => hq2 q.2, rfl⟩⟩ dX0_agree_17
  · refine xn_if_eq (tgt := 16) hC (by omega) dX0_agree_5 (by decide) (fun _ => ?_) (fun c => absurd c (by decide))
    refine lv_iconst (v := (-1)) hC.1 hC.2.1 dX0_agree_16 (by decide) ?_
    exact cx_iret hC hr hk hw ⟨⟨rfl, hok⟩, Or.inr ⟨fun q => hq1 q.1, rfl⟩⟩ dX0_agree_17
set_option maxHeartbeats 4000000 in
set_option maxRecDepth 100000 in
/-- the kind of a sequence -/
theorem x_kind (l : Launch)  {D : sg_D} {x : Int32} (hD : sg_Ok D) : cx_Mi l yX0_kind cX0_kind 2 (some .int) ({ frames := 1, cells := 0, slots := 0, locals := 21 }) xW xT [.int x] (xSt D) (fun _ r' u' => xSt D u' ∧ sg_Kd D x r') := by
  refine cx_Mi.of (by decide) (fun _ => Nat.le_of_ble_eq_true rfl) ?_
  intro p e s m below meth c Dg ad ct A u ls hu hC hml hr hk hw hl
  obtain ⟨kd, da, db, bt, ba, tp, st, nu, sp, lf, rt, bz, mv, ro, sk, hh⟩ := u
  obtain ⟨rfl, hok⟩ := hu
  have hC : cx_C p m c cX0_kind s _ RX0 := hC
  have hl : lv_has ls 2 [(0, .ref (ad 0)), (1, .int x)] := hl
  refine lv_aload_n hC.1 hC.2.1 dX0_kind_0 rfl (lv_at hl 0 rfl) ?_
  refine lv_iload_n hC.1 hC.2.1 dX0_kind_1 rfl (lv_at hl 1 rfl) ?_
  refine cx_calli (ci := 0) (rest := []) (x_isSequence l (x := x) ) hC hml hl.1 hw rfl (cwV 1 hC.2.2.2 (lw_V q96 q98 qs0 q29 q99) rfl rfl rfl (by decide +kernel) ⟨Nat.le_of_ble_eq_true rfl, Nat.le_of_ble_eq_true rfl⟩) rfl rfl rfl rfl (Nat.le_of_ble_eq_true rfl) dX0_kind_2 ⟨Nat.zero_le _, Nat.zero_le _⟩ (fun r u' H locs hp hw => ?_)
  rcases hp with ⟨rfl, rfl, hq1⟩ | ⟨rfl, rfl, hq1⟩
  · obtain ⟨i, hi, rfl⟩ := hq1
    refine xn_if_eq (tgt := 17) hC (by omega) dX0_kind_5 (by decide) (fun c => absurd c (by decide)) (fun _ => ?_)
    refine lv_aload_n hC.1 hC.2.1 dX0_kind_8 rfl (lv_at hl 0 rfl) ?_
    refine x_g_definedAs hC hw dX0_kind_9 ?_
    refine lv_iload_n hC.1 hC.2.1 dX0_kind_12 rfl (lv_at hl 1 rfl) ?_
    refine x_ld_kd (i := i) hC hw (by omega) dX0_kind_13 ?_
    refine lv_goto (tgt := 18) hC.1 hC.2.1 dX0_kind_14 (by decide) ?_
    exact cx_iret hC hr hk hw ⟨⟨rfl, hok⟩, Or.inl ⟨i, hi, rfl, rfl⟩⟩ dX0_kind_18
  · refine xn_if_eq (tgt := 17) hC (by omega) dX0_kind_5 (by decide) (fun _ => ?_) (fun c => absurd c (by decide))
    refine lv_iconst (v := (-1)) hC.1 hC.2.1 dX0_kind_17 (by decide) ?_
    exact cx_iret hC hr hk hw ⟨⟨rfl, hok⟩, Or.inr ⟨hq1, rfl⟩⟩ dX0_kind_18
end
section

/-! SelectorGc: define, reset -/
set_option maxHeartbeats 4000000 in
set_option maxRecDepth 100000 in
/-- a definition -/
theorem x_define (l : Launch)  {D : sg_D} {x k a b : Int32} (hD : sg_Ok D) : cx_Mi l yX0_define cX0_define 5 (some .boolean) ({ frames := 1, cells := 0, slots := 0, locals := 21 }) xW xT [.int x, .int k, .int a, .int b] (xSt D) (fun _ r' u' => ∃ D', xSt D' u' ∧ sg_Df D x k a b r' D') := by
  refine cx_Mi.of (by decide) (fun _ => Nat.le_of_ble_eq_true rfl) ?_
  intro p e s m below meth c Dg ad ct A u ls hu hC hml hr hk hw hl
  obtain ⟨kd, da, db, bt, ba, tp, st, nu, sp, lf, rt, bz, mv, ro, sk, hh⟩ := u
  obtain ⟨rfl, hok⟩ := hu
  have hC : cx_C p m c cX0_define s _ RX0 := hC
  have hl : lv_has ls 5 [(0, .ref (ad 0)), (1, .int x), (2, .int k), (3, .int a), (4, .int b)] := hl
  refine lv_aload_n hC.1 hC.2.1 dX0_define_0 rfl (lv_at hl 0 rfl) ?_
  refine lv_iload_n hC.1 hC.2.1 dX0_define_1 rfl (lv_at hl 1 rfl) ?_
  refine cx_calli (ci := 0) (rest := []) (x_isSequence l (x := x) ) hC hml hl.1 hw rfl (cwV 1 hC.2.2.2 (lw_V q96 q98 qs0 q29 q99) rfl rfl rfl (by decide +kernel) ⟨Nat.le_of_ble_eq_true rfl, Nat.le_of_ble_eq_true rfl⟩) rfl rfl rfl rfl (Nat.le_of_ble_eq_true rfl) dX0_define_2 ⟨Nat.zero_le _, Nat.zero_le _⟩ (fun r u' H locs hp hw => ?_)
  rcases hp with ⟨rfl, rfl, hq1⟩ | ⟨rfl, rfl, hq1⟩
  · obtain ⟨i, hi, rfl⟩ := hq1
    refine xn_if_eq (tgt := 18) hC (by omega) dX0_define_5 (by decide) (fun c => absurd c (by decide)) (fun _ => ?_)
    refine lv_iload_n hC.1 hC.2.1 dX0_define_8 rfl (lv_at hl 2 rfl) ?_
    refine lv_if_lt (tgt := 18) hC.1 hC.2.1 dX0_define_9 (by decide) (fun c1 => ?_) (fun c1 => ?_)
    · refine lv_iconst (v := nI 0) hC.1 hC.2.1 dX0_define_18 (by decide) ?_
      exact cx_zret hC hr hk hw (by decide) ⟨(kd, da, db), ⟨rfl, hok⟩, Or.inr ⟨fun ⟨i', c', q⟩ => by obtain ⟨-, q1, -, q2, -⟩ := q; rw [q2] at c1; exact nI_pos (by omega) c1, rfl, rfl⟩⟩ dX0_define_19
    · refine lv_iload_n hC.1 hC.2.1 dX0_define_12 rfl (lv_at hl 2 rfl) ?_
      refine lv_bipush (v := nI 8) hC.1 hC.2.1 dX0_define_13 (by decide) ?_
      refine lv_icmp_le (tgt := 20) hC.1 hC.2.1 dX0_define_15 (by decide) (fun c2 => ?_) (fun c2 => ?_)
      · obtain ⟨w, hw8, rfl⟩ := sg_kd8 c1 c2
        refine lv_aload_n hC.1 hC.2.1 dX0_define_20 rfl (lv_at hl 0 rfl) ?_
        refine lv_iload_n hC.1 hC.2.1 dX0_define_21 rfl (lv_at hl 2 rfl) ?_
        refine cx_calli (ci := 0) (rest := []) (x_worksOnA l (x := w) hw8) hC hml hl.1 hw rfl (cwV 1 hC.2.2.2 (lw_V q100 q102 qs1 q29 q103) rfl rfl rfl (by decide +kernel) ⟨Nat.le_of_ble_eq_true rfl, Nat.le_of_ble_eq_true rfl⟩) rfl rfl rfl rfl (Nat.le_of_ble_eq_true rfl) dX0_define_22 ⟨Nat.zero_le _, Nat.zero_le _⟩ (fun r u' H locs hp hw => ?_)
        rcases hp with ⟨rfl, rfl, hq2⟩ | ⟨rfl, rfl, hq2⟩
        · refine xn_if_eq (tgt := 38) hC (by omega) dX0_define_25 (by decide) (fun c => absurd c (by decide)) (fun _ => ?_)
          refine lv_aload_n hC.1 hC.2.1 dX0_define_28 rfl (lv_at hl 0 rfl) ?_
          refine lv_iload_n hC.1 hC.2.1 dX0_define_29 rfl (lv_at hl 3 rfl) ?_
          refine cx_calli (ci := 0) (rest := []) (x_isSequence l (x := a) ) hC hml hl.1 hw rfl (cwV 1 hC.2.2.2 (lw_V q96 q98 qs0 q29 q99) rfl rfl rfl (by decide +kernel) ⟨Nat.le_of_ble_eq_true rfl, Nat.le_of_ble_eq_true rfl⟩) rfl rfl rfl rfl (Nat.le_of_ble_eq_true rfl) dX0_define_30 ⟨Nat.zero_le _, Nat.zero_le _⟩ (fun r u' H locs hp hw => ?_)
          rcases hp with ⟨rfl, rfl, hq3⟩ | ⟨rfl, rfl, hq3⟩
          · refine xn_if_ne (tgt := 38) hC (by omega) dX0_define_33 (by decide) (fun _ => ?_) (fun c => absurd c (by decide))
            refine lv_aload_n hC.1 hC.2.1 dX0_define_38 rfl (lv_at hl 0 rfl) ?_
            refine lv_iload_n hC.1 hC.2.1 dX0_define_39 rfl (lv_at hl 2 rfl) ?_
            refine cx_calli (ci := 0) (rest := []) (x_worksOnB l (x := w) hw8) hC hml hl.1 hw rfl (cwV 1 hC.2.2.2 (lw_V q104 q106 qs2 q29 q107) rfl rfl rfl (by decide +kernel) ⟨Nat.le_of_ble_eq_true rfl, Nat.le_of_ble_eq_true rfl⟩) rfl rfl rfl rfl (Nat.le_of_ble_eq_true rfl) dX0_define_40 ⟨Nat.zero_le _, Nat.zero_le _⟩ (fun r u' H locs hp hw => ?_)
            rcases hp with ⟨rfl, rfl, hq4⟩ | ⟨rfl, rfl, hq4⟩
            · refine xn_if_eq (tgt := 57) hC (by omega) dX0_define_43 (by decide) (fun c => absurd c (by decide)) (fun _ => ?_)
              refine lv_aload_n hC.1 hC.2.1 dX0_define_46 rfl (lv_at hl 0 rfl) ?_
              refine lv_iload hC.1 hC.2.1 dX0_define_47 (lv_at hl 4 rfl) ?_
              refine cx_calli (ci := 0) (rest := []) (x_isSequence l (x := b) ) hC hml hl.1 hw rfl (cwV 1 hC.2.2.2 (lw_V q96 q98 qs0 q29 q99) rfl rfl rfl (by decide +kernel) ⟨Nat.le_of_ble_eq_true rfl, Nat.le_of_ble_eq_true rfl⟩) rfl rfl rfl rfl (Nat.le_of_ble_eq_true rfl) dX0_define_49 ⟨Nat.zero_le _, Nat.zero_le _⟩ (fun r u' H locs hp hw => ?_)
              rcases hp with ⟨rfl, rfl, hq5⟩ | ⟨rfl, rfl, hq5⟩
              · refine xn_if_ne (tgt := 57) hC (by omega) dX0_define_52 (by decide) (fun _ => ?_) (fun c => absurd c (by decide))
                refine lv_aload_n hC.1 hC.2.1 dX0_define_57 rfl (lv_at hl 0 rfl) ?_
                refine x_g_definedAs hC hw dX0_define_58 ?_
                refine lv_iload_n hC.1 hC.2.1 dX0_define_61 rfl (lv_at hl 1 rfl) ?_
                refine lv_iload_n hC.1 hC.2.1 dX0_define_62 rfl (lv_at hl 2 rfl) ?_
                refine xn_i2b hC (by omega) dX0_define_63 ?_
                refine x_st_kd (i := i) (v := w) hC hw (by omega) (by omega) dX0_define_64 (fun H locs hw => ?_)
                refine lv_aload_n hC.1 hC.2.1 dX0_define_65 rfl (lv_at hl 0 rfl) ?_
                refine x_g_definedA hC hw dX0_define_66 ?_
                refine lv_iload_n hC.1 hC.2.1 dX0_define_69 rfl (lv_at hl 1 rfl) ?_
                refine lv_iload_n hC.1 hC.2.1 dX0_define_70 rfl (lv_at hl 3 rfl) ?_
                refine x_st_da (i := i) (v := a) hC hw (by omega) dX0_define_71 (fun H locs hw => ?_)
                refine lv_aload_n hC.1 hC.2.1 dX0_define_72 rfl (lv_at hl 0 rfl) ?_
                refine x_g_definedB hC hw dX0_define_73 ?_
                refine lv_iload_n hC.1 hC.2.1 dX0_define_76 rfl (lv_at hl 1 rfl) ?_
                refine lv_iload hC.1 hC.2.1 dX0_define_77 (lv_at hl 4 rfl) ?_
                refine x_st_db (i := i) (v := b) hC hw (by omega) dX0_define_79 (fun H locs hw => ?_)
                refine lv_aload_n hC.1 hC.2.1 dX0_define_80 rfl (lv_at hl 0 rfl) ?_
                refine lv_iconst (v := nI 0) hC.1 hC.2.1 dX0_define_81 (by decide) ?_
                refine x_p_built hC hw (by omega) dX0_define_82 (fun H locs hw => ?_)
                refine lv_iconst (v := nI 1) hC.1 hC.2.1 dX0_define_85 (by decide) ?_
                exact cx_zret hC hr hk hw (by decide) ⟨_, ⟨rfl, Nat.zero_le 1, fun z => absurd z (by decide)⟩, Or.inl ⟨i, w, ⟨hi, hw8, rfl, rfl, fun _ => hq3, fun _ => hq5⟩, rfl, rfl⟩⟩ dX0_define_86
              · refine xn_if_ne (tgt := 57) hC (by omega) dX0_define_52 (by decide) (fun c => absurd c (by decide)) (fun _ => ?_)
                refine lv_iconst (v := nI 0) hC.1 hC.2.1 dX0_define_55 (by decide) ?_
                exact cx_zret hC hr hk hw (by decide) ⟨(kd, da, db), ⟨rfl, hok⟩, Or.inr ⟨fun ⟨i', c', q⟩ => by obtain ⟨-, q1, -, q2, -, q3⟩ := q; have e := (nI_eq (by omega) (by omega)).mp q2; subst e; exact hq5 (q3 hq4), rfl, rfl⟩⟩ dX0_define_56
            · refine xn_if_eq (tgt := 57) hC (by omega) dX0_define_43 (by decide) (fun _ => ?_) (fun c => absurd c (by decide))
              refine lv_aload_n hC.1 hC.2.1 dX0_define_57 rfl (lv_at hl 0 rfl) ?_
              refine x_g_definedAs hC hw dX0_define_58 ?_
              refine lv_iload_n hC.1 hC.2.1 dX0_define_61 rfl (lv_at hl 1 rfl) ?_
              refine lv_iload_n hC.1 hC.2.1 dX0_define_62 rfl (lv_at hl 2 rfl) ?_
              refine xn_i2b hC (by omega) dX0_define_63 ?_
              refine x_st_kd (i := i) (v := w) hC hw (by omega) (by omega) dX0_define_64 (fun H locs hw => ?_)
              refine lv_aload_n hC.1 hC.2.1 dX0_define_65 rfl (lv_at hl 0 rfl) ?_
              refine x_g_definedA hC hw dX0_define_66 ?_
              refine lv_iload_n hC.1 hC.2.1 dX0_define_69 rfl (lv_at hl 1 rfl) ?_
              refine lv_iload_n hC.1 hC.2.1 dX0_define_70 rfl (lv_at hl 3 rfl) ?_
              refine x_st_da (i := i) (v := a) hC hw (by omega) dX0_define_71 (fun H locs hw => ?_)
              refine lv_aload_n hC.1 hC.2.1 dX0_define_72 rfl (lv_at hl 0 rfl) ?_
              refine x_g_definedB hC hw dX0_define_73 ?_
              refine lv_iload_n hC.1 hC.2.1 dX0_define_76 rfl (lv_at hl 1 rfl) ?_
              refine lv_iload hC.1 hC.2.1 dX0_define_77 (lv_at hl 4 rfl) ?_
              refine x_st_db (i := i) (v := b) hC hw (by omega) dX0_define_79 (fun H locs hw => ?_)
              refine lv_aload_n hC.1 hC.2.1 dX0_define_80 rfl (lv_at hl 0 rfl) ?_
              refine lv_iconst (v := nI 0) hC.1 hC.2.1 dX0_define_81 (by decide) ?_
              refine x_p_built hC hw (by omega) dX0_define_82 (fun H locs hw => ?_)
              refine lv_iconst (v := nI 1) hC.1 hC.2.1 dX0_define_85 (by decide) ?_
              exact cx_zret hC hr hk hw (by decide) ⟨_, ⟨rfl, Nat.zero_le 1, fun z => absurd z (by decide)⟩, Or.inl ⟨i, w, ⟨hi, hw8, rfl, rfl, fun _ => hq3, fun z => absurd z hq4⟩, rfl, rfl⟩⟩ dX0_define_86
          · refine xn_if_ne (tgt := 38) hC (by omega) dX0_define_33 (by decide) (fun c => absurd c (by decide)) (fun _ => ?_)
            refine lv_iconst (v := nI 0) hC.1 hC.2.1 dX0_define_36 (by decide) ?_
            exact cx_zret hC hr hk hw (by decide) ⟨(kd, da, db), ⟨rfl, hok⟩, Or.inr ⟨fun ⟨i', c', q⟩ => by obtain ⟨-, q1, -, q2, q3, -⟩ := q; have e := (nI_eq (by omega) (by omega)).mp q2; subst e; exact hq3 (q3 hq2), rfl, rfl⟩⟩ dX0_define_37
        · refine xn_if_eq (tgt := 38) hC (by omega) dX0_define_25 (by decide) (fun _ => ?_) (fun c => absurd c (by decide))
          refine lv_aload_n hC.1 hC.2.1 dX0_define_38 rfl (lv_at hl 0 rfl) ?_
          refine lv_iload_n hC.1 hC.2.1 dX0_define_39 rfl (lv_at hl 2 rfl) ?_
          refine cx_calli (ci := 0) (rest := []) (x_worksOnB l (x := w) hw8) hC hml hl.1 hw rfl (cwV 1 hC.2.2.2 (lw_V q104 q106 qs2 q29 q107) rfl rfl rfl (by decide +kernel) ⟨Nat.le_of_ble_eq_true rfl, Nat.le_of_ble_eq_true rfl⟩) rfl rfl rfl rfl (Nat.le_of_ble_eq_true rfl) dX0_define_40 ⟨Nat.zero_le _, Nat.zero_le _⟩ (fun r u' H locs hp hw => ?_)
          rcases hp with ⟨rfl, rfl, hq6⟩ | ⟨rfl, rfl, hq6⟩
          · refine xn_if_eq (tgt := 57) hC (by omega) dX0_define_43 (by decide) (fun c => absurd c (by decide)) (fun _ => ?_)
            refine lv_aload_n hC.1 hC.2.1 dX0_define_46 rfl (lv_at hl 0 rfl) ?_
            refine lv_iload hC.1 hC.2.1 dX0_define_47 (lv_at hl 4 rfl) ?_
            refine cx_calli (ci := 0) (rest := []) (x_isSequence l (x := b) ) hC hml hl.1 hw rfl (cwV 1 hC.2.2.2 (lw_V q96 q98 qs0 q29 q99) rfl rfl rfl (by decide +kernel) ⟨Nat.le_of_ble_eq_true rfl, Nat.le_of_ble_eq_true rfl⟩) rfl rfl rfl rfl (Nat.le_of_ble_eq_true rfl) dX0_define_49 ⟨Nat.zero_le _, Nat.zero_le _⟩ (fun r u' H locs hp hw => ?_)
            rcases hp with ⟨rfl, rfl, hq7⟩ | ⟨rfl, rfl, hq7⟩
            · refine xn_if_ne (tgt := 57) hC (by omega) dX0_define_52 (by decide) (fun _ => ?_) (fun c => absurd c (by decide))
              refine lv_aload_n hC.1 hC.2.1 dX0_define_57 rfl (lv_at hl 0 rfl) ?_
              refine x_g_definedAs hC hw dX0_define_58 ?_
              refine lv_iload_n hC.1 hC.2.1 dX0_define_61 rfl (lv_at hl 1 rfl) ?_
              refine lv_iload_n hC.1 hC.2.1 dX0_define_62 rfl (lv_at hl 2 rfl) ?_
              refine xn_i2b hC (by omega) dX0_define_63 ?_
              refine x_st_kd (i := i) (v := w) hC hw (by omega) (by omega) dX0_define_64 (fun H locs hw => ?_)
              refine lv_aload_n hC.1 hC.2.1 dX0_define_65 rfl (lv_at hl 0 rfl) ?_
              refine x_g_definedA hC hw dX0_define_66 ?_
              refine lv_iload_n hC.1 hC.2.1 dX0_define_69 rfl (lv_at hl 1 rfl) ?_
              refine lv_iload_n hC.1 hC.2.1 dX0_define_70 rfl (lv_at hl 3 rfl) ?_
              refine x_st_da (i := i) (v := a) hC hw (by omega) dX0_define_71 (fun H locs hw => ?_)
              refine lv_aload_n hC.1 hC.2.1 dX0_define_72 rfl (lv_at hl 0 rfl) ?_
              refine x_g_definedB hC hw dX0_define_73 ?_
              refine lv_iload_n hC.1 hC.2.1 dX0_define_76 rfl (lv_at hl 1 rfl) ?_
              refine lv_iload hC.1 hC.2.1 dX0_define_77 (lv_at hl 4 rfl) ?_
              refine x_st_db (i := i) (v := b) hC hw (by omega) dX0_define_79 (fun H locs hw => ?_)
              refine lv_aload_n hC.1 hC.2.1 dX0_define_80 rfl (lv_at hl 0 rfl) ?_
              refine lv_iconst (v := nI 0) hC.1 hC.2.1 dX0_define_81 (by decide) ?_
              refine x_p_built hC hw (by omega) dX0_define_82 (fun H locs hw => ?_)
              refine lv_iconst (v := nI 1) hC.1 hC.2.1 dX0_define_85 (by decide) ?_
              exact cx_zret hC hr hk hw (by decide) ⟨_, ⟨rfl, Nat.zero_le 1, fun z => absurd z (by decide)⟩, Or.inl ⟨i, w, ⟨hi, hw8, rfl, rfl, fun z => absurd z hq2, fun _ => hq7⟩, rfl, rfl⟩⟩ dX0_define_86
            · refine xn_if_ne (tgt := 57) hC (by omega) dX0_define_52 (by decide) (fun c => absurd c (by decide)) (fun _ => ?_)
              refine lv_iconst (v := nI 0) hC.1 hC.2.1 dX0_define_55 (by decide) ?_
              exact cx_zret hC hr hk hw (by decide) ⟨(kd, da, db), ⟨rfl, hok⟩, Or.inr ⟨fun ⟨i', c', q⟩ => by obtain ⟨-, q1, -, q2, -, q3⟩ := q; have e := (nI_eq (by omega) (by omega)).mp q2; subst e; exact hq7 (q3 hq6), rfl, rfl⟩⟩ dX0_define_56
          · refine xn_if_eq (tgt := 57) hC (by omega) dX0_define_43 (by decide) (fun _ => ?_) (fun c => absurd c (by decide))
            refine lv_aload_n hC.1 hC.2.1 dX0_define_57 rfl (lv_at hl 0 rfl) ?_
            refine x_g_definedAs hC hw dX0_define_58 ?_
            refine lv_iload_n hC.1 hC.2.1 dX0_define_61 rfl (lv_at hl 1 rfl) ?_
            refine lv_iload_n hC.1 hC.2.1 dX0_define_62 rfl (lv_at hl 2 rfl) ?_
            refine xn_i2b hC (by omega) dX0_define_63 ?_
            refine x_st_kd (i := i) (v := w) hC hw (by omega) (by omega) dX0_define_64 (fun H locs hw => ?_)
            refine lv_aload_n hC.1 hC.2.1 dX0_define_65 rfl (lv_at hl 0 rfl) ?_
            refine x_g_definedA hC hw dX0_define_66 ?_
            refine lv_iload_n hC.1 hC.2.1 dX0_define_69 rfl (lv_at hl 1 rfl) ?_
            refine lv_iload_n hC.1 hC.2.1 dX0_define_70 rfl (lv_at hl 3 rfl) ?_
            refine x_st_da (i := i) (v := a) hC hw (by omega) dX0_define_71 (fun H locs hw => ?_)
            refine lv_aload_n hC.1 hC.2.1 dX0_define_72 rfl (lv_at hl 0 rfl) ?_
            refine x_g_definedB hC hw dX0_define_73 ?_
            refine lv_iload_n hC.1 hC.2.1 dX0_define_76 rfl (lv_at hl 1 rfl) ?_
            refine lv_iload hC.1 hC.2.1 dX0_define_77 (lv_at hl 4 rfl) ?_
            refine x_st_db (i := i) (v := b) hC hw (by omega) dX0_define_79 (fun H locs hw => ?_)
            refine lv_aload_n hC.1 hC.2.1 dX0_define_80 rfl (lv_at hl 0 rfl) ?_
            refine lv_iconst (v := nI 0) hC.1 hC.2.1 dX0_define_81 (by decide) ?_
            refine x_p_built hC hw (by omega) dX0_define_82 (fun H locs hw => ?_)
            refine lv_iconst (v := nI 1) hC.1 hC.2.1 dX0_define_85 (by decide) ?_
            exact cx_zret hC hr hk hw (by decide) ⟨_, ⟨rfl, Nat.zero_le 1, fun z => absurd z (by decide)⟩, Or.inl ⟨i, w, ⟨hi, hw8, rfl, rfl, fun z => absurd z hq2, fun z => absurd z hq6⟩, rfl, rfl⟩⟩ dX0_define_86
      · refine lv_iconst (v := nI 0) hC.1 hC.2.1 dX0_define_18 (by decide) ?_
        exact cx_zret hC hr hk hw (by decide) ⟨(kd, da, db), ⟨rfl, hok⟩, Or.inr ⟨fun ⟨i', c', q⟩ => by obtain ⟨-, q1, -, q2, -⟩ := q; rw [q2, nI_leI (by omega) (by omega)] at c2; exact c2 q1, rfl, rfl⟩⟩ dX0_define_19
  · refine xn_if_eq (tgt := 18) hC (by omega) dX0_define_5 (by decide) (fun _ => ?_) (fun c => absurd c (by decide))
    refine lv_iconst (v := nI 0) hC.1 hC.2.1 dX0_define_18 (by decide) ?_
    exact cx_zret hC hr hk hw (by decide) ⟨(kd, da, db), ⟨rfl, hok⟩, Or.inr ⟨fun ⟨i', c', q⟩ => hq1 ⟨i', q.1, q.2.2.1⟩, rfl, rfl⟩⟩ dX0_define_19
set_option maxHeartbeats 4000000 in
set_option maxRecDepth 100000 in
/-- all definitions as at the start -/
theorem x_reset (l : Launch)  {D : sg_D}  (hD : sg_Ok D) : cx_Mv l yX0_reset cX0_reset 2 ({ frames := 0, cells := 0, slots := 0, locals := 0 }) xW xT [] (xSt D) (fun _ u' => xSt (sg_rs D 6) u') := by
  refine cx_Mv.of (by decide) (fun _ => Nat.le_of_ble_eq_true rfl) ?_
  intro p e s m below meth c Dg ad ct A u ls hu hC hml hr hk hw hl
  obtain ⟨kd, da, db, bt, ba, tp, st, nu, sp, lf, rt, bz, mv, ro, sk, hh⟩ := u
  obtain ⟨rfl, hok⟩ := hu
  have hC : cx_C p m c cX0_reset s _ RX0 := hC
  have hl : lv_has ls 2 [(0, .ref (ad 0))] := hl
  have loop : ∀ (n : Nat) (i : Nat), i ≤ 6 → 7 ≤ i + n → ∀ (H : Heap) (locs : List Loc) (ls : Array Slot), cx_W Dg (xT ct) A s s.heap H locs (xW ad ct ((sg_rs (kd, da, db) i).1, (sg_rs (kd, da, db) i).2.1, (sg_rs (kd, da, db) i).2.2, bt, ba, tp, st, nu, sp, lf, rt, bz, mv, ro, sk, hh)) → lv_has ls 2 [(1, .int (nI i)), (0, .ref (ad 0))] → W p l e ({ frames := 0, cells := 0, slots := 0, locals := 0 }) s m ([.ref (ad 0)] : List Value).toArray below meth c H locs 0 0 (MQ below (va_Qv (fun u' => xSt (sg_rs (kd, da, db) 6) u') (cx_B Dg (xT ct) (xW ad ct) A) A) ([.ref (ad 0)] : List Value).toArray s 0 0 A) (F0 m 2 ls []) := by
    intro n
    induction n with
    | zero =>
      intro i hi hn
      exact absurd hn (by omega)
    | succ n ih =>
      intro i hi hn H locs ls hw hl
      refine lv_iload_n hC.1 hC.2.1 dX0_reset_2 rfl (lv_at hl 0 rfl) ?_
      refine lv_bipush (v := nI 6) hC.1 hC.2.1 dX0_reset_3 (by decide) ?_
      refine xn_icmp_ge (tgt := 35) hC (by omega) (by omega) dX0_reset_5 (by decide) (fun c1 => ?_) (fun c1 => ?_)
      · refine lv_aload_n hC.1 hC.2.1 dX0_reset_35 rfl (lv_at hl 1 rfl) ?_
        refine lv_iconst (v := nI 0) hC.1 hC.2.1 dX0_reset_36 (by decide) ?_
        refine x_p_built hC hw (by omega) dX0_reset_37 (fun H locs hw => ?_)
        have h66 : i = 6 := by omega
        subst h66
        exact cx_vret hC hr hk hw ⟨rfl, Nat.zero_le 1, fun z => absurd z (by decide)⟩ dX0_reset_40
      · refine lv_aload_n hC.1 hC.2.1 dX0_reset_8 rfl (lv_at hl 1 rfl) ?_
        refine x_g_definedAs hC hw dX0_reset_9 ?_
        refine lv_iload_n hC.1 hC.2.1 dX0_reset_12 rfl (lv_at hl 0 rfl) ?_
        refine lv_iconst (v := nI 0) hC.1 hC.2.1 dX0_reset_13 (by decide) ?_
        refine x_st_kd (i := i) (v := 0) hC hw (by omega) (by omega) dX0_reset_14 (fun H locs hw => ?_)
        refine lv_aload_n hC.1 hC.2.1 dX0_reset_15 rfl (lv_at hl 1 rfl) ?_
        refine x_g_definedA hC hw dX0_reset_16 ?_
        refine lv_iload_n hC.1 hC.2.1 dX0_reset_19 rfl (lv_at hl 0 rfl) ?_
        refine lv_iconst (v := nI 0) hC.1 hC.2.1 dX0_reset_20 (by decide) ?_
        refine x_st_da (i := i) (v := nI 0) hC hw (by omega) dX0_reset_21 (fun H locs hw => ?_)
        refine lv_aload_n hC.1 hC.2.1 dX0_reset_22 rfl (lv_at hl 1 rfl) ?_
        refine x_g_definedB hC hw dX0_reset_23 ?_
        refine lv_iload_n hC.1 hC.2.1 dX0_reset_26 rfl (lv_at hl 0 rfl) ?_
        refine lv_iconst (v := nI 0) hC.1 hC.2.1 dX0_reset_27 (by decide) ?_
        refine x_st_db (i := i) (v := nI 0) hC hw (by omega) dX0_reset_28 (fun H locs hw => ?_)
        refine lv_iinc (v := nI (i + 1)) (lv' := [(1, .int (nI (i + 1))), (0, .ref (ad 0))]) hC.1 hC.2.1 dX0_reset_29 hl (k := 0) rfl (xn_inc _) (by decide) rfl (fun ls hl => ?_)
        refine lv_goto (tgt := 2) hC.1 hC.2.1 dX0_reset_32 (by decide) ?_
        exact ih (i + 1) (by omega) (by omega) H locs ls hw (lv_sub hl [0, 1] rfl)
  refine lv_iconst (v := nI 0) hC.1 hC.2.1 dX0_reset_0 (by decide) ?_
  refine lv_istore_n (lv' := [(1, .int (nI 0)), (0, .ref (ad 0))]) hC.1 hC.2.1 dX0_reset_1 rfl hl (by decide) rfl (fun ls hl => ?_)
  exact loop 7 0 (by omega) (by omega) _ _ _ hw hl
end
section
/-! the class SelectorGcModel: kd da db the definitions; hs has, vl value, pa placeA, pb placeB -/
abbrev mS : Type := (Nat → Nat) × (Nat → Int32) × (Nat → Int32) × (Nat → Nat) × (Nat → Int32) × Nat × Nat
def mT (ct : Nat → ClassId) : List (ClassId × FieldType) := [(ct 0, .int), (ct 1, .int), (ct 2, .int), (ct 3, .boolean), (ct 4, .int)]
def mW (ad : Nat → Nat) (ct : Nat → ClassId) (S : mS) : va_W := match S with
  | (kd, da, db, hs, vl, pa, pb) => [(ad 0, .inr (1, [.ref (ad 1), .ref (ad 2), .ref (ad 3), .ref (ad 4), .ref (ad 5), .int (nI pa), .int (nI pb)])), (ad 1, .inl (ct 0, 6, .inl (fun j => nI (kd j)))), (ad 2, .inl (ct 1, 6, .inl da)), (ad 3, .inl (ct 2, 6, .inl db)), (ad 4, .inl (ct 3, 126, .inl (fun j => nI (hs j)))), (ad 5, .inl (ct 4, 126, .inl vl))]
section
variable {p : Program} {l : Launch} {e : Env} {R : Room} {s : State} {m : MethodId} {args : Array Value} {below : List Frame} {meth : Method} {c : Code} {H : Heap} {locs : List Loc} {cells slots : Nat} {Q : State → Prop}
variable {cc : ByteArray} {pc : Nat} {ls : Array Slot} {rest : List Value} {A : Nat → Prop} {H0 : Heap} {D : va_G} {ad : Nat → Nat} {ct : Nat → ClassId}

variable {kd : (Nat → Nat)} {da : (Nat → Int32)} {db : (Nat → Int32)} {hs : (Nat → Nat)} {vl : (Nat → Int32)} {pa : Nat} {pb : Nat}
theorem m_g_kind (hC : cx_C p m c cc s args RX1) (hw : cx_W D (mT ct) A s H0 H locs (mW ad ct (kd, da, db, hs, vl, pa, pb))) (hdg : decode cc pc = .ok (.getfield 7, 3)) (kk : W p l e R s m args below meth c H locs cells slots Q (F0 m (pc + 3) ls (.ref (ad 1) :: rest))) : W p l e R s m args below meth c H locs cells slots Q (F0 m pc ls (.ref (ad 0) :: rest)) := va_get (D := D) (ci := 1) (v := .ref (ad 1)) (C := RX1) (T := TX1) (N := 7) hC.1 hC.2.1 hC.2.2.2 in_X1 hC.2.2.1 hw.1 hw.2.1 0 rfl rfl 0 (by decide) (hC.2.2.2 _ q198) (fun _ h9 => h9) rfl hdg kk
theorem m_g_a (hC : cx_C p m c cc s args RX1) (hw : cx_W D (mT ct) A s H0 H locs (mW ad ct (kd, da, db, hs, vl, pa, pb))) (hdg : decode cc pc = .ok (.getfield 13, 3)) (kk : W p l e R s m args below meth c H locs cells slots Q (F0 m (pc + 3) ls (.ref (ad 2) :: rest))) : W p l e R s m args below meth c H locs cells slots Q (F0 m pc ls (.ref (ad 0) :: rest)) := va_get (D := D) (ci := 1) (v := .ref (ad 2)) (C := RX1) (T := TX1) (N := 7) hC.1 hC.2.1 hC.2.2.2 in_X1 hC.2.2.1 hw.1 hw.2.1 0 rfl rfl 1 (by decide) (hC.2.2.2 _ q199) (fun _ h9 => h9) rfl hdg kk
theorem m_g_b (hC : cx_C p m c cc s args RX1) (hw : cx_W D (mT ct) A s H0 H locs (mW ad ct (kd, da, db, hs, vl, pa, pb))) (hdg : decode cc pc = .ok (.getfield 16, 3)) (kk : W p l e R s m args below meth c H locs cells slots Q (F0 m (pc + 3) ls (.ref (ad 3) :: rest))) : W p l e R s m args below meth c H locs cells slots Q (F0 m pc ls (.ref (ad 0) :: rest)) := va_get (D := D) (ci := 1) (v := .ref (ad 3)) (C := RX1) (T := TX1) (N := 7) hC.1 hC.2.1 hC.2.2.2 in_X1 hC.2.2.1 hw.1 hw.2.1 0 rfl rfl 2 (by decide) (hC.2.2.2 _ q200) (fun _ h9 => h9) rfl hdg kk
theorem m_g_has (hC : cx_C p m c cc s args RX1) (hw : cx_W D (mT ct) A s H0 H locs (mW ad ct (kd, da, db, hs, vl, pa, pb))) (hdg : decode cc pc = .ok (.getfield 19, 3)) (kk : W p l e R s m args below meth c H locs cells slots Q (F0 m (pc + 3) ls (.ref (ad 4) :: rest))) : W p l e R s m args below meth c H locs cells slots Q (F0 m pc ls (.ref (ad 0) :: rest)) := va_get (D := D) (ci := 1) (v := .ref (ad 4)) (C := RX1) (T := TX1) (N := 7) hC.1 hC.2.1 hC.2.2.2 in_X1 hC.2.2.1 hw.1 hw.2.1 0 rfl rfl 3 (by decide) (hC.2.2.2 _ q201) (fun _ h9 => h9) rfl hdg kk
theorem m_g_value (hC : cx_C p m c cc s args RX1) (hw : cx_W D (mT ct) A s H0 H locs (mW ad ct (kd, da, db, hs, vl, pa, pb))) (hdg : decode cc pc = .ok (.getfield 23, 3)) (kk : W p l e R s m args below meth c H locs cells slots Q (F0 m (pc + 3) ls (.ref (ad 5) :: rest))) : W p l e R s m args below meth c H locs cells slots Q (F0 m pc ls (.ref (ad 0) :: rest)) := va_get (D := D) (ci := 1) (v := .ref (ad 5)) (C := RX1) (T := TX1) (N := 7) hC.1 hC.2.1 hC.2.2.2 in_X1 hC.2.2.1 hw.1 hw.2.1 0 rfl rfl 4 (by decide) (hC.2.2.2 _ q202) (fun _ h9 => h9) rfl hdg kk
theorem m_g_placeA (hC : cx_C p m c cc s args RX1) (hw : cx_W D (mT ct) A s H0 H locs (mW ad ct (kd, da, db, hs, vl, pa, pb))) (hdg : decode cc pc = .ok (.getfield 36, 3)) (kk : W p l e R s m args below meth c H locs cells slots Q (F0 m (pc + 3) ls (.int (nI pa) :: rest))) : W p l e R s m args below meth c H locs cells slots Q (F0 m pc ls (.ref (ad 0) :: rest)) := va_get (D := D) (ci := 1) (v := .int (nI pa)) (C := RX1) (T := TX1) (N := 7) hC.1 hC.2.1 hC.2.2.2 in_X1 hC.2.2.1 hw.1 hw.2.1 0 rfl rfl 5 (by decide) (hC.2.2.2 _ q203) (fun _ h9 => h9) rfl hdg kk
theorem m_p_placeA {v' : Nat} (hC : cx_C p m c cc s args RX1) (hw : cx_W D (mT ct) A s H0 H locs (mW ad ct (kd, da, db, hs, vl, pa, pb))) (hdg : decode cc pc = .ok (.putfield 36, 3)) (kk : ∀ (H1 : Heap) (locs1 : List Loc), cx_W D (mT ct) A s H0 H1 locs1 (mW ad ct (kd, da, db, hs, vl, v', pb)) → W p l e R s m args below meth c H1 locs1 cells slots Q (F0 m (pc + 3) ls rest)) : W p l e R s m args below meth c H locs cells slots Q (F0 m pc ls (.int (nI v') :: .ref (ad 0) :: rest)) := va_put (D := D) (ci := 1) (v := .int (nI v')) (ty := .int) (C := RX1) (T := TX1) (N := 7) hC.1 hC.2.1 hC.2.2.2 in_X1 tyX1 tyX1_ok nmX1 hC.2.2.1 hw.1 hw.2.1 hw.2.2.1 hw.2.2.2.1 0 rfl rfl 5 (by decide) (hC.2.2.2 _ q203) (fun _ h9 => h9) rfl (by decide +kernel) rfl rfl (Nat.le_of_ble_eq_true rfl) hdg (fun H1 locs1 hP hD hS => kk H1 locs1 ⟨hw.1, hP, hD, hS, hw.2.2.2.2⟩)
theorem m_g_placeB (hC : cx_C p m c cc s args RX1) (hw : cx_W D (mT ct) A s H0 H locs (mW ad ct (kd, da, db, hs, vl, pa, pb))) (hdg : decode cc pc = .ok (.getfield 40, 3)) (kk : W p l e R s m args below meth c H locs cells slots Q (F0 m (pc + 3) ls (.int (nI pb) :: rest))) : W p l e R s m args below meth c H locs cells slots Q (F0 m pc ls (.ref (ad 0) :: rest)) := va_get (D := D) (ci := 1) (v := .int (nI pb)) (C := RX1) (T := TX1) (N := 7) hC.1 hC.2.1 hC.2.2.2 in_X1 hC.2.2.1 hw.1 hw.2.1 0 rfl rfl 6 (by decide) (hC.2.2.2 _ q204) (fun _ h9 => h9) rfl hdg kk
theorem m_p_placeB {v' : Nat} (hC : cx_C p m c cc s args RX1) (hw : cx_W D (mT ct) A s H0 H locs (mW ad ct (kd, da, db, hs, vl, pa, pb))) (hdg : decode cc pc = .ok (.putfield 40, 3)) (kk : ∀ (H1 : Heap) (locs1 : List Loc), cx_W D (mT ct) A s H0 H1 locs1 (mW ad ct (kd, da, db, hs, vl, pa, v')) → W p l e R s m args below meth c H1 locs1 cells slots Q (F0 m (pc + 3) ls rest)) : W p l e R s m args below meth c H locs cells slots Q (F0 m pc ls (.int (nI v') :: .ref (ad 0) :: rest)) := va_put (D := D) (ci := 1) (v := .int (nI v')) (ty := .int) (C := RX1) (T := TX1) (N := 7) hC.1 hC.2.1 hC.2.2.2 in_X1 tyX1 tyX1_ok nmX1 hC.2.2.1 hw.1 hw.2.1 hw.2.2.1 hw.2.2.2.1 0 rfl rfl 6 (by decide) (hC.2.2.2 _ q204) (fun _ h9 => h9) rfl (by decide +kernel) rfl rfl (Nat.le_of_ble_eq_true rfl) hdg (fun H1 locs1 hP hD hS => kk H1 locs1 ⟨hw.1, hP, hD, hS, hw.2.2.2.2⟩)
theorem m_ld_kd {i : Nat} (hC : cx_C p m c cc s args RX1) (hw : cx_W D (mT ct) A s H0 H locs (mW ad ct (kd, da, db, hs, vl, pa, pb))) (hi : i < 6) (hdg : decode cc pc = .ok (.iaload, 1)) (kk : W p l e R s m args below meth c H locs cells slots Q (F0 m (pc + 1) ls (.int (nI (kd i)) :: rest))) : W p l e R s m args below meth c H locs cells slots Q (F0 m pc ls (.int (nI i) :: .ref (ad 1) :: rest)) := by
  have h31 : i < 2 ^ 31 := by omega
  refine va_iald (D := D) hC.1 hC.2.1 hw.1 hw.2.1 1 0 rfl rfl (vp_in_nI hi (by omega)) hdg ?_
  rw [nI_clamp h31]
  exact kk
theorem m_st_kd {i v : Nat} (hC : cx_C p m c cc s args RX1) (hw : cx_W D (mT ct) A s H0 H locs (mW ad ct (kd, da, db, hs, vl, pa, pb))) (hi : i < 6) (hdg : decode cc pc = .ok (.iastore, 1)) (kk : ∀ (H1 : Heap) (locs1 : List Loc), cx_W D (mT ct) A s H0 H1 locs1 (mW ad ct (va_up kd i v, da, db, hs, vl, pa, pb)) → W p l e R s m args below meth c H1 locs1 cells slots Q (F0 m (pc + 1) ls rest)) : W p l e R s m args below meth c H locs cells slots Q (F0 m pc ls (.int (nI v) :: .int (nI i) :: .ref (ad 1) :: rest)) := by
  have h31 : i < 2 ^ 31 := by omega
  refine va_iast (D := D) hC.1 hC.2.1 hw.1 hw.2.1 hw.2.2.1 hw.2.2.2.1 1 0 rfl rfl (vp_in_nI hi (by omega)) hdg (fun H1 locs1 hP hD hS => ?_)
  rw [xn_upN h31 rfl] at hP hD
  exact kk H1 locs1 ⟨hw.1, hP, hD, hS, hw.2.2.2.2⟩
theorem m_ld_da {i : Nat} (hC : cx_C p m c cc s args RX1) (hw : cx_W D (mT ct) A s H0 H locs (mW ad ct (kd, da, db, hs, vl, pa, pb))) (hi : i < 6) (hdg : decode cc pc = .ok (.iaload, 1)) (kk : W p l e R s m args below meth c H locs cells slots Q (F0 m (pc + 1) ls (.int (da i) :: rest))) : W p l e R s m args below meth c H locs cells slots Q (F0 m pc ls (.int (nI i) :: .ref (ad 2) :: rest)) := by
  have h31 : i < 2 ^ 31 := by omega
  refine va_iald (D := D) hC.1 hC.2.1 hw.1 hw.2.1 2 1 rfl rfl (vp_in_nI hi (by omega)) hdg ?_
  rw [nI_clamp h31]
  exact kk
theorem m_st_da {i : Nat} {v : Int32} (hC : cx_C p m c cc s args RX1) (hw : cx_W D (mT ct) A s H0 H locs (mW ad ct (kd, da, db, hs, vl, pa, pb))) (hi : i < 6) (hdg : decode cc pc = .ok (.iastore, 1)) (kk : ∀ (H1 : Heap) (locs1 : List Loc), cx_W D (mT ct) A s H0 H1 locs1 (mW ad ct (kd, va_up da i v, db, hs, vl, pa, pb)) → W p l e R s m args below meth c H1 locs1 cells slots Q (F0 m (pc + 1) ls rest)) : W p l e R s m args below meth c H locs cells slots Q (F0 m pc ls (.int v :: .int (nI i) :: .ref (ad 2) :: rest)) := by
  have h31 : i < 2 ^ 31 := by omega
  refine va_iast (D := D) hC.1 hC.2.1 hw.1 hw.2.1 hw.2.2.1 hw.2.2.2.1 2 1 rfl rfl (vp_in_nI hi (by omega)) hdg (fun H1 locs1 hP hD hS => ?_)
  rw [xn_upI h31] at hP hD
  exact kk H1 locs1 ⟨hw.1, hP, hD, hS, hw.2.2.2.2⟩
theorem m_ld_db {i : Nat} (hC : cx_C p m c cc s args RX1) (hw : cx_W D (mT ct) A s H0 H locs (mW ad ct (kd, da, db, hs, vl, pa, pb))) (hi : i < 6) (hdg : decode cc pc = .ok (.iaload, 1)) (kk : W p l e R s m args below meth c H locs cells slots Q (F0 m (pc + 1) ls (.int (db i) :: rest))) : W p l e R s m args below meth c H locs cells slots Q (F0 m pc ls (.int (nI i) :: .ref (ad 3) :: rest)) := by
  have h31 : i < 2 ^ 31 := by omega
  refine va_iald (D := D) hC.1 hC.2.1 hw.1 hw.2.1 3 2 rfl rfl (vp_in_nI hi (by omega)) hdg ?_
  rw [nI_clamp h31]
  exact kk
theorem m_st_db {i : Nat} {v : Int32} (hC : cx_C p m c cc s args RX1) (hw : cx_W D (mT ct) A s H0 H locs (mW ad ct (kd, da, db, hs, vl, pa, pb))) (hi : i < 6) (hdg : decode cc pc = .ok (.iastore, 1)) (kk : ∀ (H1 : Heap) (locs1 : List Loc), cx_W D (mT ct) A s H0 H1 locs1 (mW ad ct (kd, da, va_up db i v, hs, vl, pa, pb)) → W p l e R s m args below meth c H1 locs1 cells slots Q (F0 m (pc + 1) ls rest)) : W p l e R s m args below meth c H locs cells slots Q (F0 m pc ls (.int v :: .int (nI i) :: .ref (ad 3) :: rest)) := by
  have h31 : i < 2 ^ 31 := by omega
  refine va_iast (D := D) hC.1 hC.2.1 hw.1 hw.2.1 hw.2.2.1 hw.2.2.2.1 3 2 rfl rfl (vp_in_nI hi (by omega)) hdg (fun H1 locs1 hP hD hS => ?_)
  rw [xn_upI h31] at hP hD
  exact kk H1 locs1 ⟨hw.1, hP, hD, hS, hw.2.2.2.2⟩
theorem m_ld_hs {i : Nat} (hC : cx_C p m c cc s args RX1) (hw : cx_W D (mT ct) A s H0 H locs (mW ad ct (kd, da, db, hs, vl, pa, pb))) (hi : i < 126) (hdg : decode cc pc = .ok (.baload, 1)) (kk : W p l e R s m args below meth c H locs cells slots Q (F0 m (pc + 1) ls (.int (nI (hs i)) :: rest))) : W p l e R s m args below meth c H locs cells slots Q (F0 m pc ls (.int (nI i) :: .ref (ad 4) :: rest)) := by
  have h31 : i < 2 ^ 31 := by omega
  refine va_zald (D := D) hC.1 hC.2.1 hw.1 hw.2.1 4 3 rfl rfl (vp_in_nI hi (by omega)) hdg ?_
  rw [nI_clamp h31]
  exact kk
theorem m_st_hs {i v : Nat} (hC : cx_C p m c cc s args RX1) (hw : cx_W D (mT ct) A s H0 H locs (mW ad ct (kd, da, db, hs, vl, pa, pb))) (hi : i < 126) (hv : v < 2) (hdg : decode cc pc = .ok (.bastore, 1)) (kk : ∀ (H1 : Heap) (locs1 : List Loc), cx_W D (mT ct) A s H0 H1 locs1 (mW ad ct (kd, da, db, va_up hs i v, vl, pa, pb)) → W p l e R s m args below meth c H1 locs1 cells slots Q (F0 m (pc + 1) ls rest)) : W p l e R s m args below meth c H locs cells slots Q (F0 m pc ls (.int (nI v) :: .int (nI i) :: .ref (ad 4) :: rest)) := by
  have h31 : i < 2 ^ 31 := by omega
  refine va_zast (D := D) hC.1 hC.2.1 hw.1 hw.2.1 hw.2.2.1 hw.2.2.2.1 4 3 rfl rfl (vp_in_nI hi (by omega)) hdg (fun H1 locs1 hP hD hS => ?_)
  rw [xn_upN h31 (xn_nz hv)] at hP hD
  exact kk H1 locs1 ⟨hw.1, hP, hD, hS, hw.2.2.2.2⟩
theorem m_ld_vl {i : Nat} (hC : cx_C p m c cc s args RX1) (hw : cx_W D (mT ct) A s H0 H locs (mW ad ct (kd, da, db, hs, vl, pa, pb))) (hi : i < 126) (hdg : decode cc pc = .ok (.iaload, 1)) (kk : W p l e R s m args below meth c H locs cells slots Q (F0 m (pc + 1) ls (.int (vl i) :: rest))) : W p l e R s m args below meth c H locs cells slots Q (F0 m pc ls (.int (nI i) :: .ref (ad 5) :: rest)) := by
  have h31 : i < 2 ^ 31 := by omega
  refine va_iald (D := D) hC.1 hC.2.1 hw.1 hw.2.1 5 4 rfl rfl (vp_in_nI hi (by omega)) hdg ?_
  rw [nI_clamp h31]
  exact kk
theorem m_st_vl {i : Nat} {v : Int32} (hC : cx_C p m c cc s args RX1) (hw : cx_W D (mT ct) A s H0 H locs (mW ad ct (kd, da, db, hs, vl, pa, pb))) (hi : i < 126) (hdg : decode cc pc = .ok (.iastore, 1)) (kk : ∀ (H1 : Heap) (locs1 : List Loc), cx_W D (mT ct) A s H0 H1 locs1 (mW ad ct (kd, da, db, hs, va_up vl i v, pa, pb)) → W p l e R s m args below meth c H1 locs1 cells slots Q (F0 m (pc + 1) ls rest)) : W p l e R s m args below meth c H locs cells slots Q (F0 m pc ls (.int v :: .int (nI i) :: .ref (ad 5) :: rest)) := by
  have h31 : i < 2 ^ 31 := by omega
  refine va_iast (D := D) hC.1 hC.2.1 hw.1 hw.2.1 hw.2.2.1 hw.2.2.2.1 5 4 rfl rfl (vp_in_nI hi (by omega)) hdg (fun H1 locs1 hP hD hS => ?_)
  rw [xn_upI h31] at hP hD
  exact kk H1 locs1 ⟨hw.1, hP, hD, hS, hw.2.2.2.2⟩
end
end
section

/-! SelectorGcModel: its leaves -/
theorem sg_wk_pre {T : sg_T} {t u : Nat} : ∀ (d n : Nat) (r : Nat × Nat), sg_wk T t u (n + d) = some r → ∃ q, sg_wk T t u n = some q := by
  intro d
  induction d with
  | zero => intro n r h; exact ⟨r, h⟩
  | succ d ih =>
    intro n r h
    obtain ⟨q, -, -, hq, -⟩ := sg_wk_some (n := n + d) h
    exact ih n q hq
theorem sg_wk_at {T : sg_T} {t u n k : Nat} {q r : Nat × Nat} (h : sg_wk T t u k = some r) (hn : n < k) (hq : sg_wk T t u n = some q) : ∃ x y, T t q.1 = some x ∧ T u q.2 = some y ∧ sg_wk T t u (n + 1) = some (sg_nx q x y) := by
  obtain ⟨z, hz⟩ := sg_wk_pre (k - (n + 1)) (n + 1) r (by rw [show n + 1 + (k - (n + 1)) = k by omega]; exact h)
  obtain ⟨q', x, y, h1, h2, h3, h4⟩ := sg_wk_some hz
  rw [hq] at h1
  rw [← Option.some.inj h1] at h2 h3 h4
  exact ⟨x, y, h2, h3, by rw [hz, h4]⟩
theorem sg_sum_at {T : sg_T} {t : Nat} : ∀ (d n : Nat) (v : Int32), sg_sum T t (n + d) = some v → ∃ w, sg_sum T t n = some w := by
  intro d
  induction d with
  | zero => intro n v h; exact ⟨v, h⟩
  | succ d ih =>
    intro n v h
    have h : sg_2 (fun x y => x + y) (sg_sum T t (n + d)) (T t (n + d)) = some v := h
    obtain ⟨a, b, ha, -, -⟩ := sg_2_some h
    exact ih n a ha
theorem sg_sum_el {T : sg_T} {t n k : Nat} {v s : Int32} (h : sg_sum T t k = some v) (hn : n < k) (hs : sg_sum T t n = some s) : ∃ w, T t n = some w ∧ sg_sum T t (n + 1) = some (s + w) := by
  obtain ⟨z, hz⟩ := sg_sum_at (k - (n + 1)) (n + 1) v (by rw [show n + 1 + (k - (n + 1)) = k by omega]; exact h)
  have hz' : sg_2 (fun x y => x + y) (sg_sum T t n) (T t n) = some z := hz
  obtain ⟨a, b, ha, hb, e⟩ := sg_2_some hz'
  rw [hs] at ha
  refine ⟨b, hb, ?_⟩
  rw [hz, e, ← Option.some.inj ha]
set_option maxHeartbeats 4000000 in
set_option maxRecDepth 100000 in
/-- is it a number from 0 to 5 -/
theorem m_isSequence (l : Launch) {U : mS} {x : Int32}  : cx_Mi l yX1_isSequence cX1_isSequence 2 (some .boolean) ({ frames := 0, cells := 0, slots := 0, locals := 0 }) mW mT [.int x] (fun u => u = U) (fun _ r' u' => (r' = nI 1 ∧ u' = U ∧ sg_sq x) ∨ (r' = nI 0 ∧ u' = U ∧ ¬ sg_sq x)) := by
  refine cx_Mi.of (by decide) (fun _ => Nat.le_of_ble_eq_true rfl) ?_
  intro p e s m below meth c Dg ad ct A u ls hu hC hml hr hk hw hl
  subst hu
  have hC : cx_C p m c cX1_isSequence s _ RX1 := hC
  have hl : lv_has ls 2 [(0, .ref (ad 0)), (1, .int x)] := hl
  refine lv_iload_n hC.1 hC.2.1 dX1_isSequence_0 rfl (lv_at hl 1 rfl) ?_
  refine lv_if_lt (tgt := 13) hC.1 hC.2.1 dX1_isSequence_1 (by decide) (fun c1 => ?_) (fun c1 => ?_)
  · refine lv_iconst (v := nI 0) hC.1 hC.2.1 dX1_isSequence_13 (by decide) ?_
    exact cx_zret hC hr hk hw (by decide) (Or.inr ⟨rfl, rfl, sg_sq_neg c1⟩) dX1_isSequence_14
  · refine lv_iload_n hC.1 hC.2.1 dX1_isSequence_4 rfl (lv_at hl 1 rfl) ?_
    refine lv_iconst (v := nI 5) hC.1 hC.2.1 dX1_isSequence_5 (by decide) ?_
    refine lv_icmp_gt (tgt := 13) hC.1 hC.2.1 dX1_isSequence_6 (by decide) (fun c2 => ?_) (fun c2 => ?_)
    · refine lv_iconst (v := nI 0) hC.1 hC.2.1 dX1_isSequence_13 (by decide) ?_
      exact cx_zret hC hr hk hw (by decide) (Or.inr ⟨rfl, rfl, sg_sq_big c2⟩) dX1_isSequence_14
    · refine lv_iconst (v := nI 1) hC.1 hC.2.1 dX1_isSequence_9 (by decide) ?_
      refine lv_goto (tgt := 14) hC.1 hC.2.1 dX1_isSequence_10 (by decide) ?_
      exact cx_zret hC hr hk hw (by decide) (Or.inl ⟨rfl, rfl, sg_sq_yes c1 c2⟩) dX1_isSequence_14
set_option maxHeartbeats 4000000 in
set_option maxRecDepth 100000 in
/-- by the kind -/
theorem m_namesA (l : Launch) {U : mS} {x : Nat} (hx : x ≤ 8) : cx_Mi l yX1_namesA cX1_namesA 2 (some .boolean) ({ frames := 0, cells := 0, slots := 0, locals := 0 }) mW mT [.int (nI x)] (fun u => u = U) (fun _ r' u' => (r' = nI 1 ∧ u' = U ∧ sg_usA x) ∨ (r' = nI 0 ∧ u' = U ∧ ¬ sg_usA x)) := by
  refine cx_Mi.of (by decide) (fun _ => Nat.le_of_ble_eq_true rfl) ?_
  intro p e s m below meth c Dg ad ct A u ls hu hC hml hr hk hw hl
  subst hu
  have hC : cx_C p m c cX1_namesA s _ RX1 := hC
  have hl : lv_has ls 2 [(0, .ref (ad 0)), (1, .int (nI x))] := hl
  refine lv_iload_n hC.1 hC.2.1 dX1_namesA_0 rfl (lv_at hl 1 rfl) ?_
  refine lv_iconst (v := nI 2) hC.1 hC.2.1 dX1_namesA_1 (by decide) ?_
  refine xn_icmp_eq (tgt := 33) hC (by omega) (by omega) dX1_namesA_2 (by decide) (fun g1 => ?_) (fun g1 => ?_)
  · refine lv_iconst (v := nI 1) hC.1 hC.2.1 dX1_namesA_33 (by decide) ?_
    refine lv_goto (tgt := 38) hC.1 hC.2.1 dX1_namesA_34 (by decide) ?_
    exact cx_zret hC hr hk hw (by decide) (Or.inl ⟨rfl, rfl, by unfold sg_usA; omega⟩) dX1_namesA_38
  · refine lv_iload_n hC.1 hC.2.1 dX1_namesA_5 rfl (lv_at hl 1 rfl) ?_
    refine lv_iconst (v := nI 3) hC.1 hC.2.1 dX1_namesA_6 (by decide) ?_
    refine xn_icmp_eq (tgt := 33) hC (by omega) (by omega) dX1_namesA_7 (by decide) (fun g2 => ?_) (fun g2 => ?_)
    · refine lv_iconst (v := nI 1) hC.1 hC.2.1 dX1_namesA_33 (by decide) ?_
      refine lv_goto (tgt := 38) hC.1 hC.2.1 dX1_namesA_34 (by decide) ?_
      exact cx_zret hC hr hk hw (by decide) (Or.inl ⟨rfl, rfl, by unfold sg_usA; omega⟩) dX1_namesA_38
    · refine lv_iload_n hC.1 hC.2.1 dX1_namesA_10 rfl (lv_at hl 1 rfl) ?_
      refine lv_iconst (v := nI 4) hC.1 hC.2.1 dX1_namesA_11 (by decide) ?_
      refine xn_icmp_eq (tgt := 33) hC (by omega) (by omega) dX1_namesA_12 (by decide) (fun g3 => ?_) (fun g3 => ?_)
      · refine lv_iconst (v := nI 1) hC.1 hC.2.1 dX1_namesA_33 (by decide) ?_
        refine lv_goto (tgt := 38) hC.1 hC.2.1 dX1_namesA_34 (by decide) ?_
        exact cx_zret hC hr hk hw (by decide) (Or.inl ⟨rfl, rfl, by unfold sg_usA; omega⟩) dX1_namesA_38
      · refine lv_iload_n hC.1 hC.2.1 dX1_namesA_15 rfl (lv_at hl 1 rfl) ?_
        refine lv_bipush (v := nI 6) hC.1 hC.2.1 dX1_namesA_16 (by decide) ?_
        refine xn_icmp_eq (tgt := 33) hC (by omega) (by omega) dX1_namesA_18 (by decide) (fun g4 => ?_) (fun g4 => ?_)
        · refine lv_iconst (v := nI 1) hC.1 hC.2.1 dX1_namesA_33 (by decide) ?_
          refine lv_goto (tgt := 38) hC.1 hC.2.1 dX1_namesA_34 (by decide) ?_
          exact cx_zret hC hr hk hw (by decide) (Or.inl ⟨rfl, rfl, by unfold sg_usA; omega⟩) dX1_namesA_38
        · refine lv_iload_n hC.1 hC.2.1 dX1_namesA_21 rfl (lv_at hl 1 rfl) ?_
          refine lv_bipush (v := nI 7) hC.1 hC.2.1 dX1_namesA_22 (by decide) ?_
          refine xn_icmp_eq (tgt := 33) hC (by omega) (by omega) dX1_namesA_24 (by decide) (fun g5 => ?_) (fun g5 => ?_)
          · refine lv_iconst (v := nI 1) hC.1 hC.2.1 dX1_namesA_33 (by decide) ?_
            refine lv_goto (tgt := 38) hC.1 hC.2.1 dX1_namesA_34 (by decide) ?_
            exact cx_zret hC hr hk hw (by decide) (Or.inl ⟨rfl, rfl, by unfold sg_usA; omega⟩) dX1_namesA_38
          · refine lv_iload_n hC.1 hC.2.1 dX1_namesA_27 rfl (lv_at hl 1 rfl) ?_
            refine lv_bipush (v := nI 8) hC.1 hC.2.1 dX1_namesA_28 (by decide) ?_
            refine xn_icmp_ne (tgt := 37) hC (by omega) (by omega) dX1_namesA_30 (by decide) (fun g6 => ?_) (fun g6 => ?_)
            · refine lv_iconst (v := nI 0) hC.1 hC.2.1 dX1_namesA_37 (by decide) ?_
              exact cx_zret hC hr hk hw (by decide) (Or.inr ⟨rfl, rfl, by unfold sg_usA; omega⟩) dX1_namesA_38
            · refine lv_iconst (v := nI 1) hC.1 hC.2.1 dX1_namesA_33 (by decide) ?_
              refine lv_goto (tgt := 38) hC.1 hC.2.1 dX1_namesA_34 (by decide) ?_
              exact cx_zret hC hr hk hw (by decide) (Or.inl ⟨rfl, rfl, by unfold sg_usA; omega⟩) dX1_namesA_38
set_option maxHeartbeats 4000000 in
set_option maxRecDepth 100000 in
/-- by the kind -/
theorem m_namesB (l : Launch) {U : mS} {x : Nat} (hx : x ≤ 8) : cx_Mi l yX1_namesB cX1_namesB 2 (some .boolean) ({ frames := 0, cells := 0, slots := 0, locals := 0 }) mW mT [.int (nI x)] (fun u => u = U) (fun _ r' u' => (r' = nI 1 ∧ u' = U ∧ sg_usB x) ∨ (r' = nI 0 ∧ u' = U ∧ ¬ sg_usB x)) := by
  refine cx_Mi.of (by decide) (fun _ => Nat.le_of_ble_eq_true rfl) ?_
  intro p e s m below meth c Dg ad ct A u ls hu hC hml hr hk hw hl
  subst hu
  have hC : cx_C p m c cX1_namesB s _ RX1 := hC
  have hl : lv_has ls 2 [(0, .ref (ad 0)), (1, .int (nI x))] := hl
  refine lv_iload_n hC.1 hC.2.1 dX1_namesB_0 rfl (lv_at hl 1 rfl) ?_
  refine lv_iconst (v := nI 1) hC.1 hC.2.1 dX1_namesB_1 (by decide) ?_
  refine xn_icmp_eq (tgt := 32) hC (by omega) (by omega) dX1_namesB_2 (by decide) (fun g1 => ?_) (fun g1 => ?_)
  · refine lv_iconst (v := nI 1) hC.1 hC.2.1 dX1_namesB_32 (by decide) ?_
    refine lv_goto (tgt := 37) hC.1 hC.2.1 dX1_namesB_33 (by decide) ?_
    exact cx_zret hC hr hk hw (by decide) (Or.inl ⟨rfl, rfl, by unfold sg_usB; omega⟩) dX1_namesB_37
  · refine lv_iload_n hC.1 hC.2.1 dX1_namesB_5 rfl (lv_at hl 1 rfl) ?_
    refine lv_iconst (v := nI 3) hC.1 hC.2.1 dX1_namesB_6 (by decide) ?_
    refine xn_icmp_eq (tgt := 32) hC (by omega) (by omega) dX1_namesB_7 (by decide) (fun g2 => ?_) (fun g2 => ?_)
    · refine lv_iconst (v := nI 1) hC.1 hC.2.1 dX1_namesB_32 (by decide) ?_
      refine lv_goto (tgt := 37) hC.1 hC.2.1 dX1_namesB_33 (by decide) ?_
      exact cx_zret hC hr hk hw (by decide) (Or.inl ⟨rfl, rfl, by unfold sg_usB; omega⟩) dX1_namesB_37
    · refine lv_iload_n hC.1 hC.2.1 dX1_namesB_10 rfl (lv_at hl 1 rfl) ?_
      refine lv_iconst (v := nI 4) hC.1 hC.2.1 dX1_namesB_11 (by decide) ?_
      refine xn_icmp_eq (tgt := 32) hC (by omega) (by omega) dX1_namesB_12 (by decide) (fun g3 => ?_) (fun g3 => ?_)
      · refine lv_iconst (v := nI 1) hC.1 hC.2.1 dX1_namesB_32 (by decide) ?_
        refine lv_goto (tgt := 37) hC.1 hC.2.1 dX1_namesB_33 (by decide) ?_
        exact cx_zret hC hr hk hw (by decide) (Or.inl ⟨rfl, rfl, by unfold sg_usB; omega⟩) dX1_namesB_37
      · refine lv_iload_n hC.1 hC.2.1 dX1_namesB_15 rfl (lv_at hl 1 rfl) ?_
        refine lv_iconst (v := nI 5) hC.1 hC.2.1 dX1_namesB_16 (by decide) ?_
        refine xn_icmp_eq (tgt := 32) hC (by omega) (by omega) dX1_namesB_17 (by decide) (fun g4 => ?_) (fun g4 => ?_)
        · refine lv_iconst (v := nI 1) hC.1 hC.2.1 dX1_namesB_32 (by decide) ?_
          refine lv_goto (tgt := 37) hC.1 hC.2.1 dX1_namesB_33 (by decide) ?_
          exact cx_zret hC hr hk hw (by decide) (Or.inl ⟨rfl, rfl, by unfold sg_usB; omega⟩) dX1_namesB_37
        · refine lv_iload_n hC.1 hC.2.1 dX1_namesB_20 rfl (lv_at hl 1 rfl) ?_
          refine lv_bipush (v := nI 7) hC.1 hC.2.1 dX1_namesB_21 (by decide) ?_
          refine xn_icmp_eq (tgt := 32) hC (by omega) (by omega) dX1_namesB_23 (by decide) (fun g5 => ?_) (fun g5 => ?_)
          · refine lv_iconst (v := nI 1) hC.1 hC.2.1 dX1_namesB_32 (by decide) ?_
            refine lv_goto (tgt := 37) hC.1 hC.2.1 dX1_namesB_33 (by decide) ?_
            exact cx_zret hC hr hk hw (by decide) (Or.inl ⟨rfl, rfl, by unfold sg_usB; omega⟩) dX1_namesB_37
          · refine lv_iload_n hC.1 hC.2.1 dX1_namesB_26 rfl (lv_at hl 1 rfl) ?_
            refine lv_bipush (v := nI 8) hC.1 hC.2.1 dX1_namesB_27 (by decide) ?_
            refine xn_icmp_ne (tgt := 36) hC (by omega) (by omega) dX1_namesB_29 (by decide) (fun g6 => ?_) (fun g6 => ?_)
            · refine lv_iconst (v := nI 0) hC.1 hC.2.1 dX1_namesB_36 (by decide) ?_
              exact cx_zret hC hr hk hw (by decide) (Or.inr ⟨rfl, rfl, by unfold sg_usB; omega⟩) dX1_namesB_37
            · refine lv_iconst (v := nI 1) hC.1 hC.2.1 dX1_namesB_32 (by decide) ?_
              refine lv_goto (tgt := 37) hC.1 hC.2.1 dX1_namesB_33 (by decide) ?_
              exact cx_zret hC hr hk hw (by decide) (Or.inl ⟨rfl, rfl, by unfold sg_usB; omega⟩) dX1_namesB_37
set_option maxHeartbeats 4000000 in
set_option maxRecDepth 100000 in
/-- is there an element -/
theorem m_hasAt (l : Launch) {kd : Nat → Nat} {da : Nat → Int32} {db : Nat → Int32} {hs : Nat → Nat} {vl : Nat → Int32} {pa : Nat} {pb : Nat} {x k : Nat} (h01 : ∀ j, j < 126 → hs j ≤ 1) (hs6 : x < 6) (hk31 : k < 2 ^ 31) : cx_Mi l yX1_hasAt cX1_hasAt 3 (some .boolean) ({ frames := 0, cells := 0, slots := 0, locals := 0 }) mW mT [.int (nI x), .int (nI k)] (fun u => u = (kd, da, db, hs, vl, pa, pb)) (fun _ r' u' => (r' = nI 1 ∧ u' = (kd, da, db, hs, vl, pa, pb) ∧ (∃ v, sg_tb hs vl x k = some v)) ∨ (r' = nI 0 ∧ u' = (kd, da, db, hs, vl, pa, pb) ∧ ¬ (∃ v, sg_tb hs vl x k = some v))) := by
  refine cx_Mi.of (by decide) (fun _ => Nat.le_of_ble_eq_true rfl) ?_
  intro p e s m below meth c Dg ad ct A u ls hu hC hml hr hk hw hl
  subst hu
  have hC : cx_C p m c cX1_hasAt s _ RX1 := hC
  have hl : lv_has ls 3 [(0, .ref (ad 0)), (1, .int (nI x)), (2, .int (nI k))] := hl
  refine lv_iload_n hC.1 hC.2.1 dX1_hasAt_0 rfl (lv_at hl 2 rfl) ?_
  refine xn_if_lt (tgt := 28) hC (by omega) dX1_hasAt_1 (by decide) ?_
  refine lv_iload_n hC.1 hC.2.1 dX1_hasAt_4 rfl (lv_at hl 2 rfl) ?_
  refine lv_bipush (v := nI 20) hC.1 hC.2.1 dX1_hasAt_5 (by decide) ?_
  refine xn_icmp_gt (tgt := 28) hC (by omega) (by omega) dX1_hasAt_7 (by decide) (fun c1 => ?_) (fun c1 => ?_)
  · refine lv_iconst (v := nI 0) hC.1 hC.2.1 dX1_hasAt_28 (by decide) ?_
    exact cx_zret hC hr hk hw (by decide) (Or.inr ⟨rfl, rfl, fun ⟨v, hv⟩ => by have := (sg_tb_some hv).1; omega⟩) dX1_hasAt_29
  · refine lv_aload_n hC.1 hC.2.1 dX1_hasAt_10 rfl (lv_at hl 0 rfl) ?_
    refine m_g_has hC hw dX1_hasAt_11 ?_
    refine lv_bipush (v := nI 21) hC.1 hC.2.1 dX1_hasAt_14 (by decide) ?_
    refine lv_iload_n hC.1 hC.2.1 dX1_hasAt_16 rfl (lv_at hl 1 rfl) ?_
    refine xn_imul (r := 21 * x) hC rfl dX1_hasAt_17 ?_
    refine lv_iload_n hC.1 hC.2.1 dX1_hasAt_18 rfl (lv_at hl 2 rfl) ?_
    refine xn_iadd (r := (21 * x) + k) hC rfl dX1_hasAt_19 ?_
    refine m_ld_hs (i := (21 * x) + k) hC hw (by omega) dX1_hasAt_20 ?_
    refine xn_if_eq (tgt := 28) hC (by have := h01 (21 * x + k) (by omega); omega) dX1_hasAt_21 (by decide) (fun c2 => ?_) (fun c2 => ?_)
    · refine lv_iconst (v := nI 0) hC.1 hC.2.1 dX1_hasAt_28 (by decide) ?_
      exact cx_zret hC hr hk hw (by decide) (Or.inr ⟨rfl, rfl, fun ⟨v, hv⟩ => (sg_tb_some hv).2.1 c2⟩) dX1_hasAt_29
    · refine lv_iconst (v := nI 1) hC.1 hC.2.1 dX1_hasAt_24 (by decide) ?_
      refine lv_goto (tgt := 29) hC.1 hC.2.1 dX1_hasAt_25 (by decide) ?_
      exact cx_zret hC hr hk hw (by decide) (Or.inl ⟨rfl, rfl, _, sg_tb_mk (by omega) c2⟩) dX1_hasAt_29
set_option maxHeartbeats 4000000 in
set_option maxRecDepth 100000 in
/-- an element -/
theorem m_at (l : Launch) {kd : Nat → Nat} {da : Nat → Int32} {db : Nat → Int32} {hs : Nat → Nat} {vl : Nat → Int32} {pa : Nat} {pb : Nat} {x k : Nat} (hs6 : x < 6) (hk20 : k ≤ 20) : cx_Mi l yX1_at cX1_at 3 (some .int) ({ frames := 0, cells := 0, slots := 0, locals := 0 }) mW mT [.int (nI x), .int (nI k)] (fun u => u = (kd, da, db, hs, vl, pa, pb)) (fun _ r' u' => r' = vl (21 * x + k) ∧ u' = (kd, da, db, hs, vl, pa, pb)) := by
  refine cx_Mi.of (by decide) (fun _ => Nat.le_of_ble_eq_true rfl) ?_
  intro p e s m below meth c Dg ad ct A u ls hu hC hml hr hk hw hl
  subst hu
  have hC : cx_C p m c cX1_at s _ RX1 := hC
  have hl : lv_has ls 3 [(0, .ref (ad 0)), (1, .int (nI x)), (2, .int (nI k))] := hl
  refine lv_aload_n hC.1 hC.2.1 dX1_at_0 rfl (lv_at hl 0 rfl) ?_
  refine m_g_value hC hw dX1_at_1 ?_
  refine lv_bipush (v := nI 21) hC.1 hC.2.1 dX1_at_4 (by decide) ?_
  refine lv_iload_n hC.1 hC.2.1 dX1_at_6 rfl (lv_at hl 1 rfl) ?_
  refine xn_imul (r := 21 * x) hC rfl dX1_at_7 ?_
  refine lv_iload_n hC.1 hC.2.1 dX1_at_8 rfl (lv_at hl 2 rfl) ?_
  refine xn_iadd (r := (21 * x) + k) hC rfl dX1_at_9 ?_
  refine m_ld_vl (i := (21 * x) + k) hC hw (by omega) dX1_at_10 ?_
  exact cx_iret hC hr hk hw ⟨rfl, rfl⟩ dX1_at_11
set_option maxHeartbeats 4000000 in
set_option maxRecDepth 100000 in
/-- the places of a merge -/
theorem m_walk (l : Launch) {kd : Nat → Nat} {da : Nat → Int32} {db : Nat → Int32} {hs : Nat → Nat} {vl : Nat → Int32} {pa : Nat} {pb : Nat} {x k : Nat} {pq : Nat × Nat} (hD : sg_Ok (kd, da, db)) (hs6 : x < 6) (hk8 : sg_kd (kd, da, db) x = 8) (hk20 : k ≤ 20) (hpq : sg_wk (sg_tb hs vl) (sg_sa (kd, da, db) x) (sg_sb (kd, da, db) x) k = some pq) : cx_Mv l yX1_walk cX1_walk 6 ({ frames := 1, cells := 0, slots := 0, locals := 22 }) mW mT [.int (nI x), .int (nI k)] (fun u => u = (kd, da, db, hs, vl, pa, pb)) (fun _ u' => u' = (kd, da, db, hs, vl, pq.1, pq.2)) := by
  refine cx_Mv.of (by decide) (fun _ => Nat.le_of_ble_eq_true rfl) ?_
  intro p e s m below meth c Dg ad ct A u ls hu hC hml hr hk hw hl
  subst hu
  have hC : cx_C p m c cX1_walk s _ RX1 := hC
  have hl : lv_has ls 6 [(0, .ref (ad 0)), (1, .int (nI x)), (2, .int (nI k))] := hl
  have hkd : sg_kd (kd, da, db) x = kd x := rfl
  rw [hkd] at hk8
  have loop : ∀ (n : Nat) (i pa pb : Nat), i ≤ k → k + 1 ≤ i + n → sg_wk (sg_tb hs vl) (sg_sa (kd, da, db) x) (sg_sb (kd, da, db) x) i = some (pa, pb) → ∀ (H : Heap) (locs : List Loc) (ls : Array Slot), cx_W Dg (mT ct) A s s.heap H locs (mW ad ct (kd, da, db, hs, vl, pa, pb)) → lv_has ls 6 [(3, .int (nI i)), (2, .int (nI k)), (1, .int (nI x)), (0, .ref (ad 0))] → W p l e ({ frames := 1, cells := 0, slots := 0, locals := 22 }) s m ([.ref (ad 0), .int (nI x), .int (nI k)] : List Value).toArray below meth c H locs 0 0 (MQ below (va_Qv (fun u' => u' = (kd, da, db, hs, vl, pq.1, pq.2)) (cx_B Dg (mT ct) (mW ad ct) A) A) ([.ref (ad 0), .int (nI x), .int (nI k)] : List Value).toArray s 0 0 A) (F0 m 12 ls []) := by
    intro n
    induction n with
    | zero =>
      intro i pa pb hi hn hwk
      exact absurd hn (by omega)
    | succ n ih =>
      intro i pa pb hi hn hwk H locs ls hw hl
      refine lv_iload_n hC.1 hC.2.1 dX1_walk_12 rfl (lv_at hl 0 rfl) ?_
      refine lv_iload_n hC.1 hC.2.1 dX1_walk_13 rfl (lv_at hl 1 rfl) ?_
      refine xn_icmp_ge (tgt := 89) hC (by omega) (by omega) dX1_walk_14 (by decide) (fun c1 => ?_) (fun c1 => ?_)
      · have e := hwk
        rw [show i = k by omega, hpq] at e
        exact cx_vret hC hr hk hw (by rw [Option.some.inj e]) dX1_walk_89
      · obtain ⟨w1, w2, t1, t2, hnx⟩ := sg_wk_at hpq (by omega) hwk
        obtain ⟨l1, -, v1⟩ := sg_tb_some t1
        obtain ⟨l2, -, v2⟩ := sg_tb_some t2
        refine lv_aload_n hC.1 hC.2.1 dX1_walk_17 rfl (lv_at hl 3 rfl) ?_
        refine lv_aload_n hC.1 hC.2.1 dX1_walk_18 rfl (lv_at hl 3 rfl) ?_
        refine m_g_a hC hw dX1_walk_19 ?_
        refine lv_iload_n hC.1 hC.2.1 dX1_walk_22 rfl (lv_at hl 2 rfl) ?_
        refine m_ld_da (i := x) hC hw (by omega) dX1_walk_23 ?_
        refine lv_aload_n hC.1 hC.2.1 dX1_walk_24 rfl (lv_at hl 3 rfl) ?_
        refine m_g_placeA hC hw dX1_walk_25 ?_
        have ea : da x = nI (sg_sa (kd, da, db) x) := (hD.a hs6 (by rw [hkd]; unfold sg_usA; omega)).2
        have ea6 : sg_sa (kd, da, db) x < 6 := (hD.a hs6 (by rw [hkd]; unfold sg_usA; omega)).1
        rw [ea]
        refine cx_calli (ci := 1) (rest := []) (m_at l (x := sg_sa (kd, da, db) x) (k := pa) (by omega) (by omega)) hC hml hl.1 hw rfl (cwV 2 hC.2.2.2 (lw_V q264 q266 qs26 q30 q267) rfl rfl rfl (by decide +kernel) ⟨Nat.le_of_ble_eq_true rfl, Nat.le_of_ble_eq_true rfl⟩) rfl rfl rfl rfl (Nat.le_of_ble_eq_true rfl) dX1_walk_28 ⟨Nat.zero_le _, Nat.zero_le _⟩ (fun r u' H locs hp hw => ?_)
        obtain ⟨rfl, rfl⟩ := hp
        refine lv_istore (lv' := [(4, .int (vl (21 * (sg_sa (kd, da, db) x) + pa))), (3, .int (nI i)), (2, .int (nI k)), (1, .int (nI x)), (0, .ref (ad 0))]) hC.1 hC.2.1 dX1_walk_31 hl (by decide) rfl (fun ls hl => ?_)
        refine lv_aload_n hC.1 hC.2.1 dX1_walk_33 rfl (lv_at hl 4 rfl) ?_
        refine lv_aload_n hC.1 hC.2.1 dX1_walk_34 rfl (lv_at hl 4 rfl) ?_
        refine m_g_b hC hw dX1_walk_35 ?_
        refine lv_iload_n hC.1 hC.2.1 dX1_walk_38 rfl (lv_at hl 3 rfl) ?_
        refine m_ld_db (i := x) hC hw (by omega) dX1_walk_39 ?_
        refine lv_aload_n hC.1 hC.2.1 dX1_walk_40 rfl (lv_at hl 4 rfl) ?_
        refine m_g_placeB hC hw dX1_walk_41 ?_
        have eb : db x = nI (sg_sb (kd, da, db) x) := (hD.b hs6 (by rw [hkd]; unfold sg_usB; omega)).2
        have eb6 : sg_sb (kd, da, db) x < 6 := (hD.b hs6 (by rw [hkd]; unfold sg_usB; omega)).1
        rw [eb]
        refine cx_calli (ci := 1) (rest := []) (m_at l (x := sg_sb (kd, da, db) x) (k := pb) (by omega) (by omega)) hC hml hl.1 hw rfl (cwV 2 hC.2.2.2 (lw_V q264 q266 qs26 q30 q267) rfl rfl rfl (by decide +kernel) ⟨Nat.le_of_ble_eq_true rfl, Nat.le_of_ble_eq_true rfl⟩) rfl rfl rfl rfl (Nat.le_of_ble_eq_true rfl) dX1_walk_44 ⟨Nat.zero_le _, Nat.zero_le _⟩ (fun r u' H locs hp hw => ?_)
        obtain ⟨rfl, rfl⟩ := hp
        refine lv_istore (lv' := [(5, .int (vl (21 * (sg_sb (kd, da, db) x) + pb))), (4, .int (vl (21 * (sg_sa (kd, da, db) x) + pa))), (3, .int (nI i)), (2, .int (nI k)), (1, .int (nI x)), (0, .ref (ad 0))]) hC.1 hC.2.1 dX1_walk_47 hl (by decide) rfl (fun ls hl => ?_)
        rw [v1, v2] at hl
        refine lv_iload hC.1 hC.2.1 dX1_walk_49 (lv_at hl 1 rfl) ?_
        refine lv_iload hC.1 hC.2.1 dX1_walk_51 (lv_at hl 0 rfl) ?_
        refine lv_icmp_gt (tgt := 66) hC.1 hC.2.1 dX1_walk_53 (by decide) (fun c2 => ?_) (fun c2 => ?_)
        · refine lv_iload hC.1 hC.2.1 dX1_walk_66 (lv_at hl 0 rfl) ?_
          refine lv_iload hC.1 hC.2.1 dX1_walk_68 (lv_at hl 1 rfl) ?_
          refine lv_icmp_gt (tgt := 83) hC.1 hC.2.1 dX1_walk_70 (by decide) (fun c3 => ?_) (fun c3 => ?_)
          · refine lv_iinc (v := nI (i + 1)) (lv' := [(3, .int (nI (i + 1))), (5, .int w2), (4, .int w1), (2, .int (nI k)), (1, .int (nI x)), (0, .ref (ad 0))]) hC.1 hC.2.1 dX1_walk_83 hl (k := 2) rfl (xn_inc _) (by decide) rfl (fun ls hl => ?_)
            refine lv_goto (tgt := 12) hC.1 hC.2.1 dX1_walk_86 (by decide) ?_
            exact ih (i + 1) pa pb (by omega) (by omega) (by rw [hnx]; unfold sg_nx; rw [if_neg (Int32.not_le.mpr c2), if_neg (Int32.not_le.mpr c3)]) H locs ls hw (lv_sub hl [0, 3, 4, 5] rfl)
          · refine lv_aload_n hC.1 hC.2.1 dX1_walk_73 rfl (lv_at hl 5 rfl) ?_
            refine lv_dup hC.1 hC.2.1 dX1_walk_74 rfl ?_
            refine m_g_placeB hC hw dX1_walk_75 ?_
            refine lv_iconst (v := nI 1) hC.1 hC.2.1 dX1_walk_78 (by decide) ?_
            refine xn_iadd (r := pb + 1) hC rfl dX1_walk_79 ?_
            refine m_p_placeB hC hw dX1_walk_80 (fun H locs hw => ?_)
            refine lv_iinc (v := nI (i + 1)) (lv' := [(3, .int (nI (i + 1))), (5, .int w2), (4, .int w1), (2, .int (nI k)), (1, .int (nI x)), (0, .ref (ad 0))]) hC.1 hC.2.1 dX1_walk_83 hl (k := 2) rfl (xn_inc _) (by decide) rfl (fun ls hl => ?_)
            refine lv_goto (tgt := 12) hC.1 hC.2.1 dX1_walk_86 (by decide) ?_
            exact ih (i + 1) pa (pb + 1) (by omega) (by omega) (by rw [hnx]; unfold sg_nx; rw [if_neg (Int32.not_le.mpr c2), if_pos (Int32.not_lt.mp c3)]) H locs ls hw (lv_sub hl [0, 3, 4, 5] rfl)
        · refine lv_aload_n hC.1 hC.2.1 dX1_walk_56 rfl (lv_at hl 5 rfl) ?_
          refine lv_dup hC.1 hC.2.1 dX1_walk_57 rfl ?_
          refine m_g_placeA hC hw dX1_walk_58 ?_
          refine lv_iconst (v := nI 1) hC.1 hC.2.1 dX1_walk_61 (by decide) ?_
          refine xn_iadd (r := pa + 1) hC rfl dX1_walk_62 ?_
          refine m_p_placeA hC hw dX1_walk_63 (fun H locs hw => ?_)
          refine lv_iload hC.1 hC.2.1 dX1_walk_66 (lv_at hl 0 rfl) ?_
          refine lv_iload hC.1 hC.2.1 dX1_walk_68 (lv_at hl 1 rfl) ?_
          refine lv_icmp_gt (tgt := 83) hC.1 hC.2.1 dX1_walk_70 (by decide) (fun c3 => ?_) (fun c3 => ?_)
          · refine lv_iinc (v := nI (i + 1)) (lv' := [(3, .int (nI (i + 1))), (5, .int w2), (4, .int w1), (2, .int (nI k)), (1, .int (nI x)), (0, .ref (ad 0))]) hC.1 hC.2.1 dX1_walk_83 hl (k := 2) rfl (xn_inc _) (by decide) rfl (fun ls hl => ?_)
            refine lv_goto (tgt := 12) hC.1 hC.2.1 dX1_walk_86 (by decide) ?_
            exact ih (i + 1) (pa + 1) pb (by omega) (by omega) (by rw [hnx]; unfold sg_nx; rw [if_pos (Int32.not_lt.mp c2), if_neg (Int32.not_le.mpr c3)]) H locs ls hw (lv_sub hl [0, 3, 4, 5] rfl)
          · refine lv_aload_n hC.1 hC.2.1 dX1_walk_73 rfl (lv_at hl 5 rfl) ?_
            refine lv_dup hC.1 hC.2.1 dX1_walk_74 rfl ?_
            refine m_g_placeB hC hw dX1_walk_75 ?_
            refine lv_iconst (v := nI 1) hC.1 hC.2.1 dX1_walk_78 (by decide) ?_
            refine xn_iadd (r := pb + 1) hC rfl dX1_walk_79 ?_
            refine m_p_placeB hC hw dX1_walk_80 (fun H locs hw => ?_)
            refine lv_iinc (v := nI (i + 1)) (lv' := [(3, .int (nI (i + 1))), (5, .int w2), (4, .int w1), (2, .int (nI k)), (1, .int (nI x)), (0, .ref (ad 0))]) hC.1 hC.2.1 dX1_walk_83 hl (k := 2) rfl (xn_inc _) (by decide) rfl (fun ls hl => ?_)
            refine lv_goto (tgt := 12) hC.1 hC.2.1 dX1_walk_86 (by decide) ?_
            exact ih (i + 1) (pa + 1) (pb + 1) (by omega) (by omega) (by rw [hnx]; unfold sg_nx; rw [if_pos (Int32.not_lt.mp c2), if_pos (Int32.not_lt.mp c3)]) H locs ls hw (lv_sub hl [0, 3, 4, 5] rfl)
  refine lv_aload_n hC.1 hC.2.1 dX1_walk_0 rfl (lv_at hl 0 rfl) ?_
  refine lv_iconst (v := nI 0) hC.1 hC.2.1 dX1_walk_1 (by decide) ?_
  refine m_p_placeA hC hw dX1_walk_2 (fun H locs hw => ?_)
  refine lv_aload_n hC.1 hC.2.1 dX1_walk_5 rfl (lv_at hl 0 rfl) ?_
  refine lv_iconst (v := nI 0) hC.1 hC.2.1 dX1_walk_6 (by decide) ?_
  refine m_p_placeB hC hw dX1_walk_7 (fun H locs hw => ?_)
  refine lv_iconst (v := nI 0) hC.1 hC.2.1 dX1_walk_10 (by decide) ?_
  refine lv_istore_n (lv' := [(3, .int (nI 0)), (0, .ref (ad 0)), (1, .int (nI x)), (2, .int (nI k))]) hC.1 hC.2.1 dX1_walk_11 rfl hl (by decide) rfl (fun ls hl => ?_)
  exact loop (k + 1) 0 0 0 (by omega) (by omega) rfl _ _ _ hw (lv_sub hl [0, 3, 2, 1] rfl)
end
section

/-! SelectorGcModel: needsMet, worth -/
set_option maxHeartbeats 4000000 in
set_option maxRecDepth 100000 in
/-- can the element be computed -/
theorem m_needsMet (l : Launch) {kd : Nat → Nat} {da : Nat → Int32} {db : Nat → Int32} {hs : Nat → Nat} {vl : Nat → Int32} {pa : Nat} {pb : Nat} {x k : Nat} (hD : sg_Ok (kd, da, db)) (h01 : ∀ j, j < 126 → hs j ≤ 1) (hM : sg_Mi (kd, da, db) (sg_tb hs vl)) (hs6 : x < 6) (hk20 : k ≤ 20) : cx_Mi l yX1_needsMet cX1_needsMet 3 (some .boolean) ({ frames := 2, cells := 0, slots := 0, locals := 47 }) mW mT [.int (nI x), .int (nI k)] (fun u => u = (kd, da, db, hs, vl, pa, pb)) (fun _ r' u' => ∃ pa' pb', u' = (kd, da, db, hs, vl, pa', pb') ∧ ((r' = nI 1 ∧ sg_Nd (kd, da, db) (sg_tb hs vl) x k) ∨ (r' = nI 0 ∧ ¬ sg_Nd (kd, da, db) (sg_tb hs vl) x k))) := by
  refine cx_Mi.of (by decide) (fun _ => Nat.le_of_ble_eq_true rfl) ?_
  intro p e s m below meth c Dg ad ct A u ls hu hC hml hr hk hw hl
  subst hu
  have hC : cx_C p m c cX1_needsMet s _ RX1 := hC
  have hl : lv_has ls 3 [(0, .ref (ad 0)), (1, .int (nI x)), (2, .int (nI k))] := hl
  have hkd : sg_kd (kd, da, db) x = kd x := rfl
  have hk8 : kd x ≤ 8 := hD.k hs6
  refine lv_iload_n hC.1 hC.2.1 dX1_needsMet_0 rfl (lv_at hl 2 rfl) ?_
  refine xn_if_le (tgt := 17) hC (by omega) dX1_needsMet_1 (by decide) (fun c0 => ?_) (fun c0 => ?_)
  · have ha : sg_Aw (sg_tb hs vl) x k := Or.inl (by omega)
    refine lv_aload_n hC.1 hC.2.1 dX1_needsMet_17 rfl (lv_at hl 0 rfl) ?_
    refine m_g_kind hC hw dX1_needsMet_18 ?_
    refine lv_iload_n hC.1 hC.2.1 dX1_needsMet_21 rfl (lv_at hl 1 rfl) ?_
    refine m_ld_kd (i := x) hC hw (by omega) dX1_needsMet_22 ?_
    refine xn_if_ne (tgt := 28) hC (by omega) dX1_needsMet_23 (by decide) (fun k0 => ?_) (fun k0 => ?_)
    · refine lv_aload_n hC.1 hC.2.1 dX1_needsMet_28 rfl (lv_at hl 0 rfl) ?_
      refine m_g_kind hC hw dX1_needsMet_29 ?_
      refine lv_iload_n hC.1 hC.2.1 dX1_needsMet_32 rfl (lv_at hl 1 rfl) ?_
      refine m_ld_kd (i := x) hC hw (by omega) dX1_needsMet_33 ?_
      refine lv_iconst (v := nI 1) hC.1 hC.2.1 dX1_needsMet_34 (by decide) ?_
      refine xn_icmp_ne (tgt := 64) hC (by omega) (by omega) dX1_needsMet_35 (by decide) (fun k1 => ?_) (fun k1 => ?_)
      · refine lv_aload_n hC.1 hC.2.1 dX1_needsMet_64 rfl (lv_at hl 0 rfl) ?_
        refine m_g_kind hC hw dX1_needsMet_65 ?_
        refine lv_iload_n hC.1 hC.2.1 dX1_needsMet_68 rfl (lv_at hl 1 rfl) ?_
        refine m_ld_kd (i := x) hC hw (by omega) dX1_needsMet_69 ?_
        refine lv_iconst (v := nI 2) hC.1 hC.2.1 dX1_needsMet_70 (by decide) ?_
        refine xn_icmp_ne (tgt := 88) hC (by omega) (by omega) dX1_needsMet_71 (by decide) (fun k2 => ?_) (fun k2 => ?_)
        · refine lv_aload_n hC.1 hC.2.1 dX1_needsMet_88 rfl (lv_at hl 0 rfl) ?_
          refine m_g_kind hC hw dX1_needsMet_89 ?_
          refine lv_iload_n hC.1 hC.2.1 dX1_needsMet_92 rfl (lv_at hl 1 rfl) ?_
          refine m_ld_kd (i := x) hC hw (by omega) dX1_needsMet_93 ?_
          refine lv_iconst (v := nI 3) hC.1 hC.2.1 dX1_needsMet_94 (by decide) ?_
          refine xn_icmp_eq (tgt := 108) hC (by omega) (by omega) dX1_needsMet_95 (by decide) (fun k3 => ?_) (fun k3 => ?_)
          · refine lv_aload_n hC.1 hC.2.1 dX1_needsMet_108 rfl (lv_at hl 0 rfl) ?_
            refine lv_aload_n hC.1 hC.2.1 dX1_needsMet_109 rfl (lv_at hl 0 rfl) ?_
            refine m_g_a hC hw dX1_needsMet_110 ?_
            refine lv_iload_n hC.1 hC.2.1 dX1_needsMet_113 rfl (lv_at hl 1 rfl) ?_
            refine m_ld_da (i := x) hC hw (by omega) dX1_needsMet_114 ?_
            refine lv_iload_n hC.1 hC.2.1 dX1_needsMet_115 rfl (lv_at hl 2 rfl) ?_
            have ea : da x = nI (sg_sa (kd, da, db) x) := (hD.a hs6 (by rw [hkd]; unfold sg_usA; omega)).2
            have ea6 : sg_sa (kd, da, db) x < 6 := (hD.a hs6 (by rw [hkd]; unfold sg_usA; omega)).1
            rw [ea]
            refine cx_calli (ci := 1) (rest := []) (m_hasAt l (x := sg_sa (kd, da, db) x) (k := k) h01 (by omega) (by omega)) hC hml hl.1 hw rfl (cwV 2 hC.2.2.2 (lw_V q256 q258 qs24 q30 q259) rfl rfl rfl (by decide +kernel) ⟨Nat.le_of_ble_eq_true rfl, Nat.le_of_ble_eq_true rfl⟩) rfl rfl rfl rfl (Nat.le_of_ble_eq_true rfl) dX1_needsMet_116 ⟨Nat.zero_le _, Nat.zero_le _⟩ (fun r u' H locs hp hw => ?_)
            rcases hp with ⟨rfl, rfl, h1⟩ | ⟨rfl, rfl, h1⟩
            · refine xn_if_eq (tgt := 140) hC (by omega) dX1_needsMet_119 (by decide) (fun c => absurd c (by decide)) (fun _ => ?_)
              refine lv_aload_n hC.1 hC.2.1 dX1_needsMet_122 rfl (lv_at hl 0 rfl) ?_
              refine lv_aload_n hC.1 hC.2.1 dX1_needsMet_123 rfl (lv_at hl 0 rfl) ?_
              refine m_g_b hC hw dX1_needsMet_124 ?_
              refine lv_iload_n hC.1 hC.2.1 dX1_needsMet_127 rfl (lv_at hl 1 rfl) ?_
              refine m_ld_db (i := x) hC hw (by omega) dX1_needsMet_128 ?_
              refine lv_iload_n hC.1 hC.2.1 dX1_needsMet_129 rfl (lv_at hl 2 rfl) ?_
              have eb : db x = nI (sg_sb (kd, da, db) x) := (hD.b hs6 (by rw [hkd]; unfold sg_usB; omega)).2
              have eb6 : sg_sb (kd, da, db) x < 6 := (hD.b hs6 (by rw [hkd]; unfold sg_usB; omega)).1
              rw [eb]
              refine cx_calli (ci := 1) (rest := []) (m_hasAt l (x := sg_sb (kd, da, db) x) (k := k) h01 (by omega) (by omega)) hC hml hl.1 hw rfl (cwV 2 hC.2.2.2 (lw_V q256 q258 qs24 q30 q259) rfl rfl rfl (by decide +kernel) ⟨Nat.le_of_ble_eq_true rfl, Nat.le_of_ble_eq_true rfl⟩) rfl rfl rfl rfl (Nat.le_of_ble_eq_true rfl) dX1_needsMet_130 ⟨Nat.zero_le _, Nat.zero_le _⟩ (fun r u' H locs hp hw => ?_)
              rcases hp with ⟨rfl, rfl, h2⟩ | ⟨rfl, rfl, h2⟩
              · refine xn_if_eq (tgt := 140) hC (by omega) dX1_needsMet_133 (by decide) (fun c => absurd c (by decide)) (fun _ => ?_)
                refine lv_iconst (v := nI 1) hC.1 hC.2.1 dX1_needsMet_136 (by decide) ?_
                refine lv_goto (tgt := 141) hC.1 hC.2.1 dX1_needsMet_137 (by decide) ?_
                exact cx_zret hC hr hk hw (by decide) ⟨_, _, rfl, Or.inl ⟨rfl, (sg_Nd.k3 (D := (kd, da, db)) k3 ha).mpr ⟨h1, h2⟩⟩⟩ dX1_needsMet_141
              · refine xn_if_eq (tgt := 140) hC (by omega) dX1_needsMet_133 (by decide) (fun _ => ?_) (fun c => absurd c (by decide))
                refine lv_iconst (v := nI 0) hC.1 hC.2.1 dX1_needsMet_140 (by decide) ?_
                exact cx_zret hC hr hk hw (by decide) ⟨_, _, rfl, Or.inr ⟨rfl, fun q => h2 ((sg_Nd.k3 (D := (kd, da, db)) k3 ha).mp q).2⟩⟩ dX1_needsMet_141
            · refine xn_if_eq (tgt := 140) hC (by omega) dX1_needsMet_119 (by decide) (fun _ => ?_) (fun c => absurd c (by decide))
              refine lv_iconst (v := nI 0) hC.1 hC.2.1 dX1_needsMet_140 (by decide) ?_
              exact cx_zret hC hr hk hw (by decide) ⟨_, _, rfl, Or.inr ⟨rfl, fun q => h1 ((sg_Nd.k3 (D := (kd, da, db)) k3 ha).mp q).1⟩⟩ dX1_needsMet_141
          · refine lv_aload_n hC.1 hC.2.1 dX1_needsMet_98 rfl (lv_at hl 0 rfl) ?_
            refine m_g_kind hC hw dX1_needsMet_99 ?_
            refine lv_iload_n hC.1 hC.2.1 dX1_needsMet_102 rfl (lv_at hl 1 rfl) ?_
            refine m_ld_kd (i := x) hC hw (by omega) dX1_needsMet_103 ?_
            refine lv_iconst (v := nI 4) hC.1 hC.2.1 dX1_needsMet_104 (by decide) ?_
            refine xn_icmp_ne (tgt := 142) hC (by omega) (by omega) dX1_needsMet_105 (by decide) (fun k4 => ?_) (fun k4 => ?_)
            · refine lv_aload_n hC.1 hC.2.1 dX1_needsMet_142 rfl (lv_at hl 0 rfl) ?_
              refine m_g_kind hC hw dX1_needsMet_143 ?_
              refine lv_iload_n hC.1 hC.2.1 dX1_needsMet_146 rfl (lv_at hl 1 rfl) ?_
              refine m_ld_kd (i := x) hC hw (by omega) dX1_needsMet_147 ?_
              refine lv_iconst (v := nI 5) hC.1 hC.2.1 dX1_needsMet_148 (by decide) ?_
              refine xn_icmp_ne (tgt := 164) hC (by omega) (by omega) dX1_needsMet_149 (by decide) (fun k5 => ?_) (fun k5 => ?_)
              · refine lv_aload_n hC.1 hC.2.1 dX1_needsMet_164 rfl (lv_at hl 0 rfl) ?_
                refine m_g_kind hC hw dX1_needsMet_165 ?_
                refine lv_iload_n hC.1 hC.2.1 dX1_needsMet_168 rfl (lv_at hl 1 rfl) ?_
                refine m_ld_kd (i := x) hC hw (by omega) dX1_needsMet_169 ?_
                refine lv_bipush (v := nI 6) hC.1 hC.2.1 dX1_needsMet_170 (by decide) ?_
                refine xn_icmp_ne (tgt := 187) hC (by omega) (by omega) dX1_needsMet_172 (by decide) (fun k6 => ?_) (fun k6 => ?_)
                · refine lv_aload_n hC.1 hC.2.1 dX1_needsMet_187 rfl (lv_at hl 0 rfl) ?_
                  refine m_g_kind hC hw dX1_needsMet_188 ?_
                  refine lv_iload_n hC.1 hC.2.1 dX1_needsMet_191 rfl (lv_at hl 1 rfl) ?_
                  refine m_ld_kd (i := x) hC hw (by omega) dX1_needsMet_192 ?_
                  refine lv_bipush (v := nI 7) hC.1 hC.2.1 dX1_needsMet_193 (by decide) ?_
                  refine xn_icmp_ne (tgt := 234) hC (by omega) (by omega) dX1_needsMet_195 (by decide) (fun k7 => ?_) (fun k7 => ?_)
                  · refine lv_aload_n hC.1 hC.2.1 dX1_needsMet_234 rfl (lv_at hl 0 rfl) ?_
                    refine lv_iload_n hC.1 hC.2.1 dX1_needsMet_235 rfl (lv_at hl 1 rfl) ?_
                    refine lv_iload_n hC.1 hC.2.1 dX1_needsMet_236 rfl (lv_at hl 2 rfl) ?_
                    have h8 : kd x = 8 := by omega
                    obtain ⟨pq, hpq⟩ := hM.wk hs6 h8 ha
                    obtain ⟨pq1, pq2⟩ := sg_wk_le _ _ hpq
                    refine cx_callv (ci := 1) (rest := []) (m_walk l (x := x) (k := k) hD hs6 h8 hk20 hpq) hC hml hl.1 hw rfl (cwV 2 hC.2.2.2 (lw_V q260 q262 qs25 q30 q263) rfl rfl rfl (by decide +kernel) ⟨Nat.le_of_ble_eq_true rfl, Nat.le_of_ble_eq_true rfl⟩) rfl rfl rfl rfl (Nat.le_of_ble_eq_true rfl) dX1_needsMet_237 ⟨Nat.zero_le _, Nat.zero_le _⟩ (fun u' H locs hp hw => ?_)
                    have hp := hp
                    subst hp
                    refine lv_aload_n hC.1 hC.2.1 dX1_needsMet_240 rfl (lv_at hl 0 rfl) ?_
                    refine lv_aload_n hC.1 hC.2.1 dX1_needsMet_241 rfl (lv_at hl 0 rfl) ?_
                    refine m_g_a hC hw dX1_needsMet_242 ?_
                    refine lv_iload_n hC.1 hC.2.1 dX1_needsMet_245 rfl (lv_at hl 1 rfl) ?_
                    refine m_ld_da (i := x) hC hw (by omega) dX1_needsMet_246 ?_
                    refine lv_aload_n hC.1 hC.2.1 dX1_needsMet_247 rfl (lv_at hl 0 rfl) ?_
                    refine m_g_placeA hC hw dX1_needsMet_248 ?_
                    have ea : da x = nI (sg_sa (kd, da, db) x) := (hD.a hs6 (by rw [hkd]; unfold sg_usA; omega)).2
                    have ea6 : sg_sa (kd, da, db) x < 6 := (hD.a hs6 (by rw [hkd]; unfold sg_usA; omega)).1
                    rw [ea]
                    refine cx_calli (ci := 1) (rest := []) (m_hasAt l (x := sg_sa (kd, da, db) x) (k := pq.1) h01 (by omega) (by omega)) hC hml hl.1 hw rfl (cwV 2 hC.2.2.2 (lw_V q256 q258 qs24 q30 q259) rfl rfl rfl (by decide +kernel) ⟨Nat.le_of_ble_eq_true rfl, Nat.le_of_ble_eq_true rfl⟩) rfl rfl rfl rfl (Nat.le_of_ble_eq_true rfl) dX1_needsMet_251 ⟨Nat.zero_le _, Nat.zero_le _⟩ (fun r u' H locs hp hw => ?_)
                    rcases hp with ⟨rfl, rfl, h3⟩ | ⟨rfl, rfl, h3⟩
                    · refine xn_if_eq (tgt := 278) hC (by omega) dX1_needsMet_254 (by decide) (fun c => absurd c (by decide)) (fun _ => ?_)
                      refine lv_aload_n hC.1 hC.2.1 dX1_needsMet_257 rfl (lv_at hl 0 rfl) ?_
                      refine lv_aload_n hC.1 hC.2.1 dX1_needsMet_258 rfl (lv_at hl 0 rfl) ?_
                      refine m_g_b hC hw dX1_needsMet_259 ?_
                      refine lv_iload_n hC.1 hC.2.1 dX1_needsMet_262 rfl (lv_at hl 1 rfl) ?_
                      refine m_ld_db (i := x) hC hw (by omega) dX1_needsMet_263 ?_
                      refine lv_aload_n hC.1 hC.2.1 dX1_needsMet_264 rfl (lv_at hl 0 rfl) ?_
                      refine m_g_placeB hC hw dX1_needsMet_265 ?_
                      have eb : db x = nI (sg_sb (kd, da, db) x) := (hD.b hs6 (by rw [hkd]; unfold sg_usB; omega)).2
                      have eb6 : sg_sb (kd, da, db) x < 6 := (hD.b hs6 (by rw [hkd]; unfold sg_usB; omega)).1
                      rw [eb]
                      refine cx_calli (ci := 1) (rest := []) (m_hasAt l (x := sg_sb (kd, da, db) x) (k := pq.2) h01 (by omega) (by omega)) hC hml hl.1 hw rfl (cwV 2 hC.2.2.2 (lw_V q256 q258 qs24 q30 q259) rfl rfl rfl (by decide +kernel) ⟨Nat.le_of_ble_eq_true rfl, Nat.le_of_ble_eq_true rfl⟩) rfl rfl rfl rfl (Nat.le_of_ble_eq_true rfl) dX1_needsMet_268 ⟨Nat.zero_le _, Nat.zero_le _⟩ (fun r u' H locs hp hw => ?_)
                      rcases hp with ⟨rfl, rfl, h4⟩ | ⟨rfl, rfl, h4⟩
                      · refine xn_if_eq (tgt := 278) hC (by omega) dX1_needsMet_271 (by decide) (fun c => absurd c (by decide)) (fun _ => ?_)
                        refine lv_iconst (v := nI 1) hC.1 hC.2.1 dX1_needsMet_274 (by decide) ?_
                        refine lv_goto (tgt := 279) hC.1 hC.2.1 dX1_needsMet_275 (by decide) ?_
                        exact cx_zret hC hr hk hw (by decide) ⟨_, _, rfl, Or.inl ⟨rfl, (sg_Nd.k8 (D := (kd, da, db)) h8 ha hpq).mpr ⟨h3, h4⟩⟩⟩ dX1_needsMet_279
                      · refine xn_if_eq (tgt := 278) hC (by omega) dX1_needsMet_271 (by decide) (fun _ => ?_) (fun c => absurd c (by decide))
                        refine lv_iconst (v := nI 0) hC.1 hC.2.1 dX1_needsMet_278 (by decide) ?_
                        exact cx_zret hC hr hk hw (by decide) ⟨_, _, rfl, Or.inr ⟨rfl, fun q => h4 ((sg_Nd.k8 (D := (kd, da, db)) h8 ha hpq).mp q).2⟩⟩ dX1_needsMet_279
                    · refine xn_if_eq (tgt := 278) hC (by omega) dX1_needsMet_254 (by decide) (fun _ => ?_) (fun c => absurd c (by decide))
                      refine lv_iconst (v := nI 0) hC.1 hC.2.1 dX1_needsMet_278 (by decide) ?_
                      exact cx_zret hC hr hk hw (by decide) ⟨_, _, rfl, Or.inr ⟨rfl, fun q => h3 ((sg_Nd.k8 (D := (kd, da, db)) h8 ha hpq).mp q).1⟩⟩ dX1_needsMet_279
                  · refine lv_iload_n hC.1 hC.2.1 dX1_needsMet_198 rfl (lv_at hl 2 rfl) ?_
                    refine lv_iconst (v := nI 2) hC.1 hC.2.1 dX1_needsMet_199 (by decide) ?_
                    refine xn_irem (r := k % 2) hC (by omega) (by omega) (by omega) rfl dX1_needsMet_200 ?_
                    refine xn_if_ne (tgt := 220) hC (by omega) dX1_needsMet_201 (by decide) (fun ev => ?_) (fun ev => ?_)
                    · refine lv_aload_n hC.1 hC.2.1 dX1_needsMet_220 rfl (lv_at hl 0 rfl) ?_
                      refine lv_aload_n hC.1 hC.2.1 dX1_needsMet_221 rfl (lv_at hl 0 rfl) ?_
                      refine m_g_b hC hw dX1_needsMet_222 ?_
                      refine lv_iload_n hC.1 hC.2.1 dX1_needsMet_225 rfl (lv_at hl 1 rfl) ?_
                      refine m_ld_db (i := x) hC hw (by omega) dX1_needsMet_226 ?_
                      refine lv_iload_n hC.1 hC.2.1 dX1_needsMet_227 rfl (lv_at hl 2 rfl) ?_
                      refine lv_iconst (v := nI 2) hC.1 hC.2.1 dX1_needsMet_228 (by decide) ?_
                      refine xn_idiv (r := k / 2) hC (by omega) (by omega) (by omega) rfl dX1_needsMet_229 ?_
                      have eb : db x = nI (sg_sb (kd, da, db) x) := (hD.b hs6 (by rw [hkd]; unfold sg_usB; omega)).2
                      have eb6 : sg_sb (kd, da, db) x < 6 := (hD.b hs6 (by rw [hkd]; unfold sg_usB; omega)).1
                      rw [eb]
                      refine cx_calli (ci := 1) (rest := []) (m_hasAt l (x := sg_sb (kd, da, db) x) (k := k / 2) h01 (by omega) (by omega)) hC hml hl.1 hw rfl (cwV 2 hC.2.2.2 (lw_V q256 q258 qs24 q30 q259) rfl rfl rfl (by decide +kernel) ⟨Nat.le_of_ble_eq_true rfl, Nat.le_of_ble_eq_true rfl⟩) rfl rfl rfl rfl (Nat.le_of_ble_eq_true rfl) dX1_needsMet_230 ⟨Nat.zero_le _, Nat.zero_le _⟩ (fun r u' H locs hp hw => ?_)
                      rcases hp with ⟨rfl, rfl, h5⟩ | ⟨rfl, rfl, h5⟩
                      · exact cx_zret hC hr hk hw (by decide) ⟨_, _, rfl, Or.inl ⟨rfl, (sg_Nd.k7o (D := (kd, da, db)) k7 ha ev).mpr h5⟩⟩ dX1_needsMet_233
                      · exact cx_zret hC hr hk hw (by decide) ⟨_, _, rfl, Or.inr ⟨rfl, fun q => h5 ((sg_Nd.k7o (D := (kd, da, db)) k7 ha ev).mp q)⟩⟩ dX1_needsMet_233
                    · refine lv_aload_n hC.1 hC.2.1 dX1_needsMet_204 rfl (lv_at hl 0 rfl) ?_
                      refine lv_aload_n hC.1 hC.2.1 dX1_needsMet_205 rfl (lv_at hl 0 rfl) ?_
                      refine m_g_a hC hw dX1_needsMet_206 ?_
                      refine lv_iload_n hC.1 hC.2.1 dX1_needsMet_209 rfl (lv_at hl 1 rfl) ?_
                      refine m_ld_da (i := x) hC hw (by omega) dX1_needsMet_210 ?_
                      refine lv_iload_n hC.1 hC.2.1 dX1_needsMet_211 rfl (lv_at hl 2 rfl) ?_
                      refine lv_iconst (v := nI 2) hC.1 hC.2.1 dX1_needsMet_212 (by decide) ?_
                      refine xn_idiv (r := k / 2) hC (by omega) (by omega) (by omega) rfl dX1_needsMet_213 ?_
                      have ea : da x = nI (sg_sa (kd, da, db) x) := (hD.a hs6 (by rw [hkd]; unfold sg_usA; omega)).2
                      have ea6 : sg_sa (kd, da, db) x < 6 := (hD.a hs6 (by rw [hkd]; unfold sg_usA; omega)).1
                      rw [ea]
                      refine cx_calli (ci := 1) (rest := []) (m_hasAt l (x := sg_sa (kd, da, db) x) (k := k / 2) h01 (by omega) (by omega)) hC hml hl.1 hw rfl (cwV 2 hC.2.2.2 (lw_V q256 q258 qs24 q30 q259) rfl rfl rfl (by decide +kernel) ⟨Nat.le_of_ble_eq_true rfl, Nat.le_of_ble_eq_true rfl⟩) rfl rfl rfl rfl (Nat.le_of_ble_eq_true rfl) dX1_needsMet_214 ⟨Nat.zero_le _, Nat.zero_le _⟩ (fun r u' H locs hp hw => ?_)
                      rcases hp with ⟨rfl, rfl, h6⟩ | ⟨rfl, rfl, h6⟩
                      · refine lv_goto (tgt := 233) hC.1 hC.2.1 dX1_needsMet_217 (by decide) ?_
                        exact cx_zret hC hr hk hw (by decide) ⟨_, _, rfl, Or.inl ⟨rfl, (sg_Nd.k7e (D := (kd, da, db)) k7 ha ev).mpr h6⟩⟩ dX1_needsMet_233
                      · refine lv_goto (tgt := 233) hC.1 hC.2.1 dX1_needsMet_217 (by decide) ?_
                        exact cx_zret hC hr hk hw (by decide) ⟨_, _, rfl, Or.inr ⟨rfl, fun q => h6 ((sg_Nd.k7e (D := (kd, da, db)) k7 ha ev).mp q)⟩⟩ dX1_needsMet_233
                · refine lv_aload_n hC.1 hC.2.1 dX1_needsMet_175 rfl (lv_at hl 0 rfl) ?_
                  refine lv_aload_n hC.1 hC.2.1 dX1_needsMet_176 rfl (lv_at hl 0 rfl) ?_
                  refine m_g_a hC hw dX1_needsMet_177 ?_
                  refine lv_iload_n hC.1 hC.2.1 dX1_needsMet_180 rfl (lv_at hl 1 rfl) ?_
                  refine m_ld_da (i := x) hC hw (by omega) dX1_needsMet_181 ?_
                  refine lv_iload_n hC.1 hC.2.1 dX1_needsMet_182 rfl (lv_at hl 2 rfl) ?_
                  have ea : da x = nI (sg_sa (kd, da, db) x) := (hD.a hs6 (by rw [hkd]; unfold sg_usA; omega)).2
                  have ea6 : sg_sa (kd, da, db) x < 6 := (hD.a hs6 (by rw [hkd]; unfold sg_usA; omega)).1
                  rw [ea]
                  refine cx_calli (ci := 1) (rest := []) (m_hasAt l (x := sg_sa (kd, da, db) x) (k := k) h01 (by omega) (by omega)) hC hml hl.1 hw rfl (cwV 2 hC.2.2.2 (lw_V q256 q258 qs24 q30 q259) rfl rfl rfl (by decide +kernel) ⟨Nat.le_of_ble_eq_true rfl, Nat.le_of_ble_eq_true rfl⟩) rfl rfl rfl rfl (Nat.le_of_ble_eq_true rfl) dX1_needsMet_183 ⟨Nat.zero_le _, Nat.zero_le _⟩ (fun r u' H locs hp hw => ?_)
                  rcases hp with ⟨rfl, rfl, h7⟩ | ⟨rfl, rfl, h7⟩
                  · exact cx_zret hC hr hk hw (by decide) ⟨_, _, rfl, Or.inl ⟨rfl, (sg_Nd.k6 (D := (kd, da, db)) hM ea6 k6 ha).mpr h7⟩⟩ dX1_needsMet_186
                  · exact cx_zret hC hr hk hw (by decide) ⟨_, _, rfl, Or.inr ⟨rfl, fun q => h7 ((sg_Nd.k6 (D := (kd, da, db)) hM ea6 k6 ha).mp q)⟩⟩ dX1_needsMet_186
              · refine lv_aload_n hC.1 hC.2.1 dX1_needsMet_152 rfl (lv_at hl 0 rfl) ?_
                refine lv_aload_n hC.1 hC.2.1 dX1_needsMet_153 rfl (lv_at hl 0 rfl) ?_
                refine m_g_b hC hw dX1_needsMet_154 ?_
                refine lv_iload_n hC.1 hC.2.1 dX1_needsMet_157 rfl (lv_at hl 1 rfl) ?_
                refine m_ld_db (i := x) hC hw (by omega) dX1_needsMet_158 ?_
                refine lv_iload_n hC.1 hC.2.1 dX1_needsMet_159 rfl (lv_at hl 2 rfl) ?_
                have eb : db x = nI (sg_sb (kd, da, db) x) := (hD.b hs6 (by rw [hkd]; unfold sg_usB; omega)).2
                have eb6 : sg_sb (kd, da, db) x < 6 := (hD.b hs6 (by rw [hkd]; unfold sg_usB; omega)).1
                rw [eb]
                refine cx_calli (ci := 1) (rest := []) (m_hasAt l (x := sg_sb (kd, da, db) x) (k := k) h01 (by omega) (by omega)) hC hml hl.1 hw rfl (cwV 2 hC.2.2.2 (lw_V q256 q258 qs24 q30 q259) rfl rfl rfl (by decide +kernel) ⟨Nat.le_of_ble_eq_true rfl, Nat.le_of_ble_eq_true rfl⟩) rfl rfl rfl rfl (Nat.le_of_ble_eq_true rfl) dX1_needsMet_160 ⟨Nat.zero_le _, Nat.zero_le _⟩ (fun r u' H locs hp hw => ?_)
                rcases hp with ⟨rfl, rfl, h8⟩ | ⟨rfl, rfl, h8⟩
                · exact cx_zret hC hr hk hw (by decide) ⟨_, _, rfl, Or.inl ⟨rfl, (sg_Nd.k5 (D := (kd, da, db)) k5 ha).mpr h8⟩⟩ dX1_needsMet_163
                · exact cx_zret hC hr hk hw (by decide) ⟨_, _, rfl, Or.inr ⟨rfl, fun q => h8 ((sg_Nd.k5 (D := (kd, da, db)) k5 ha).mp q)⟩⟩ dX1_needsMet_163
            · refine lv_aload_n hC.1 hC.2.1 dX1_needsMet_108 rfl (lv_at hl 0 rfl) ?_
              refine lv_aload_n hC.1 hC.2.1 dX1_needsMet_109 rfl (lv_at hl 0 rfl) ?_
              refine m_g_a hC hw dX1_needsMet_110 ?_
              refine lv_iload_n hC.1 hC.2.1 dX1_needsMet_113 rfl (lv_at hl 1 rfl) ?_
              refine m_ld_da (i := x) hC hw (by omega) dX1_needsMet_114 ?_
              refine lv_iload_n hC.1 hC.2.1 dX1_needsMet_115 rfl (lv_at hl 2 rfl) ?_
              have ea : da x = nI (sg_sa (kd, da, db) x) := (hD.a hs6 (by rw [hkd]; unfold sg_usA; omega)).2
              have ea6 : sg_sa (kd, da, db) x < 6 := (hD.a hs6 (by rw [hkd]; unfold sg_usA; omega)).1
              rw [ea]
              refine cx_calli (ci := 1) (rest := []) (m_hasAt l (x := sg_sa (kd, da, db) x) (k := k) h01 (by omega) (by omega)) hC hml hl.1 hw rfl (cwV 2 hC.2.2.2 (lw_V q256 q258 qs24 q30 q259) rfl rfl rfl (by decide +kernel) ⟨Nat.le_of_ble_eq_true rfl, Nat.le_of_ble_eq_true rfl⟩) rfl rfl rfl rfl (Nat.le_of_ble_eq_true rfl) dX1_needsMet_116 ⟨Nat.zero_le _, Nat.zero_le _⟩ (fun r u' H locs hp hw => ?_)
              rcases hp with ⟨rfl, rfl, h9⟩ | ⟨rfl, rfl, h9⟩
              · refine xn_if_eq (tgt := 140) hC (by omega) dX1_needsMet_119 (by decide) (fun c => absurd c (by decide)) (fun _ => ?_)
                refine lv_aload_n hC.1 hC.2.1 dX1_needsMet_122 rfl (lv_at hl 0 rfl) ?_
                refine lv_aload_n hC.1 hC.2.1 dX1_needsMet_123 rfl (lv_at hl 0 rfl) ?_
                refine m_g_b hC hw dX1_needsMet_124 ?_
                refine lv_iload_n hC.1 hC.2.1 dX1_needsMet_127 rfl (lv_at hl 1 rfl) ?_
                refine m_ld_db (i := x) hC hw (by omega) dX1_needsMet_128 ?_
                refine lv_iload_n hC.1 hC.2.1 dX1_needsMet_129 rfl (lv_at hl 2 rfl) ?_
                have eb : db x = nI (sg_sb (kd, da, db) x) := (hD.b hs6 (by rw [hkd]; unfold sg_usB; omega)).2
                have eb6 : sg_sb (kd, da, db) x < 6 := (hD.b hs6 (by rw [hkd]; unfold sg_usB; omega)).1
                rw [eb]
                refine cx_calli (ci := 1) (rest := []) (m_hasAt l (x := sg_sb (kd, da, db) x) (k := k) h01 (by omega) (by omega)) hC hml hl.1 hw rfl (cwV 2 hC.2.2.2 (lw_V q256 q258 qs24 q30 q259) rfl rfl rfl (by decide +kernel) ⟨Nat.le_of_ble_eq_true rfl, Nat.le_of_ble_eq_true rfl⟩) rfl rfl rfl rfl (Nat.le_of_ble_eq_true rfl) dX1_needsMet_130 ⟨Nat.zero_le _, Nat.zero_le _⟩ (fun r u' H locs hp hw => ?_)
                rcases hp with ⟨rfl, rfl, h10⟩ | ⟨rfl, rfl, h10⟩
                · refine xn_if_eq (tgt := 140) hC (by omega) dX1_needsMet_133 (by decide) (fun c => absurd c (by decide)) (fun _ => ?_)
                  refine lv_iconst (v := nI 1) hC.1 hC.2.1 dX1_needsMet_136 (by decide) ?_
                  refine lv_goto (tgt := 141) hC.1 hC.2.1 dX1_needsMet_137 (by decide) ?_
                  exact cx_zret hC hr hk hw (by decide) ⟨_, _, rfl, Or.inl ⟨rfl, (sg_Nd.k4 (D := (kd, da, db)) k4 ha).mpr ⟨h9, h10⟩⟩⟩ dX1_needsMet_141
                · refine xn_if_eq (tgt := 140) hC (by omega) dX1_needsMet_133 (by decide) (fun _ => ?_) (fun c => absurd c (by decide))
                  refine lv_iconst (v := nI 0) hC.1 hC.2.1 dX1_needsMet_140 (by decide) ?_
                  exact cx_zret hC hr hk hw (by decide) ⟨_, _, rfl, Or.inr ⟨rfl, fun q => h10 ((sg_Nd.k4 (D := (kd, da, db)) k4 ha).mp q).2⟩⟩ dX1_needsMet_141
              · refine xn_if_eq (tgt := 140) hC (by omega) dX1_needsMet_119 (by decide) (fun _ => ?_) (fun c => absurd c (by decide))
                refine lv_iconst (v := nI 0) hC.1 hC.2.1 dX1_needsMet_140 (by decide) ?_
                exact cx_zret hC hr hk hw (by decide) ⟨_, _, rfl, Or.inr ⟨rfl, fun q => h9 ((sg_Nd.k4 (D := (kd, da, db)) k4 ha).mp q).1⟩⟩ dX1_needsMet_141
        · refine lv_aload_n hC.1 hC.2.1 dX1_needsMet_74 rfl (lv_at hl 0 rfl) ?_
          refine lv_aload_n hC.1 hC.2.1 dX1_needsMet_75 rfl (lv_at hl 0 rfl) ?_
          refine m_g_a hC hw dX1_needsMet_76 ?_
          refine lv_iload_n hC.1 hC.2.1 dX1_needsMet_79 rfl (lv_at hl 1 rfl) ?_
          refine m_ld_da (i := x) hC hw (by omega) dX1_needsMet_80 ?_
          refine lv_iload_n hC.1 hC.2.1 dX1_needsMet_81 rfl (lv_at hl 2 rfl) ?_
          refine lv_iconst (v := nI 1) hC.1 hC.2.1 dX1_needsMet_82 (by decide) ?_
          refine xn_iadd (r := k + 1) hC rfl dX1_needsMet_83 ?_
          have ea : da x = nI (sg_sa (kd, da, db) x) := (hD.a hs6 (by rw [hkd]; unfold sg_usA; omega)).2
          have ea6 : sg_sa (kd, da, db) x < 6 := (hD.a hs6 (by rw [hkd]; unfold sg_usA; omega)).1
          rw [ea]
          refine cx_calli (ci := 1) (rest := []) (m_hasAt l (x := sg_sa (kd, da, db) x) (k := k + 1) h01 (by omega) (by omega)) hC hml hl.1 hw rfl (cwV 2 hC.2.2.2 (lw_V q256 q258 qs24 q30 q259) rfl rfl rfl (by decide +kernel) ⟨Nat.le_of_ble_eq_true rfl, Nat.le_of_ble_eq_true rfl⟩) rfl rfl rfl rfl (Nat.le_of_ble_eq_true rfl) dX1_needsMet_84 ⟨Nat.zero_le _, Nat.zero_le _⟩ (fun r u' H locs hp hw => ?_)
          rcases hp with ⟨rfl, rfl, h11⟩ | ⟨rfl, rfl, h11⟩
          · exact cx_zret hC hr hk hw (by decide) ⟨_, _, rfl, Or.inl ⟨rfl, (sg_Nd.k2 (D := (kd, da, db)) k2 ha).mpr h11⟩⟩ dX1_needsMet_87
          · exact cx_zret hC hr hk hw (by decide) ⟨_, _, rfl, Or.inr ⟨rfl, fun q => h11 ((sg_Nd.k2 (D := (kd, da, db)) k2 ha).mp q)⟩⟩ dX1_needsMet_87
      · refine lv_iload_n hC.1 hC.2.1 dX1_needsMet_38 rfl (lv_at hl 2 rfl) ?_
        refine xn_if_eq (tgt := 58) hC (by omega) dX1_needsMet_39 (by decide) (fun z0 => ?_) (fun z0 => ?_)
        · refine lv_iconst (v := nI 1) hC.1 hC.2.1 dX1_needsMet_58 (by decide) ?_
          refine lv_goto (tgt := 63) hC.1 hC.2.1 dX1_needsMet_59 (by decide) ?_
          exact cx_zret hC hr hk hw (by decide) ⟨_, _, rfl, Or.inl ⟨rfl, by rw [z0]; exact sg_Nd.k1z (D := (kd, da, db)) k1⟩⟩ dX1_needsMet_63
        · refine lv_aload_n hC.1 hC.2.1 dX1_needsMet_42 rfl (lv_at hl 0 rfl) ?_
          refine lv_aload_n hC.1 hC.2.1 dX1_needsMet_43 rfl (lv_at hl 0 rfl) ?_
          refine m_g_b hC hw dX1_needsMet_44 ?_
          refine lv_iload_n hC.1 hC.2.1 dX1_needsMet_47 rfl (lv_at hl 1 rfl) ?_
          refine m_ld_db (i := x) hC hw (by omega) dX1_needsMet_48 ?_
          refine lv_iload_n hC.1 hC.2.1 dX1_needsMet_49 rfl (lv_at hl 2 rfl) ?_
          refine lv_iconst (v := nI 1) hC.1 hC.2.1 dX1_needsMet_50 (by decide) ?_
          refine xn_isub (r := k - 1) hC (by omega) dX1_needsMet_51 ?_
          have eb : db x = nI (sg_sb (kd, da, db) x) := (hD.b hs6 (by rw [hkd]; unfold sg_usB; omega)).2
          have eb6 : sg_sb (kd, da, db) x < 6 := (hD.b hs6 (by rw [hkd]; unfold sg_usB; omega)).1
          rw [eb]
          refine cx_calli (ci := 1) (rest := []) (m_hasAt l (x := sg_sb (kd, da, db) x) (k := k - 1) h01 (by omega) (by omega)) hC hml hl.1 hw rfl (cwV 2 hC.2.2.2 (lw_V q256 q258 qs24 q30 q259) rfl rfl rfl (by decide +kernel) ⟨Nat.le_of_ble_eq_true rfl, Nat.le_of_ble_eq_true rfl⟩) rfl rfl rfl rfl (Nat.le_of_ble_eq_true rfl) dX1_needsMet_52 ⟨Nat.zero_le _, Nat.zero_le _⟩ (fun r u' H locs hp hw => ?_)
          rcases hp with ⟨rfl, rfl, h12⟩ | ⟨rfl, rfl, h12⟩
          · refine xn_if_eq (tgt := 62) hC (by omega) dX1_needsMet_55 (by decide) (fun c => absurd c (by decide)) (fun _ => ?_)
            refine lv_iconst (v := nI 1) hC.1 hC.2.1 dX1_needsMet_58 (by decide) ?_
            refine lv_goto (tgt := 63) hC.1 hC.2.1 dX1_needsMet_59 (by decide) ?_
            exact cx_zret hC hr hk hw (by decide) ⟨_, _, rfl, Or.inl ⟨rfl, (sg_Nd.k1 (D := (kd, da, db)) k1 ha z0).mpr h12⟩⟩ dX1_needsMet_63
          · refine xn_if_eq (tgt := 62) hC (by omega) dX1_needsMet_55 (by decide) (fun _ => ?_) (fun c => absurd c (by decide))
            refine lv_iconst (v := nI 0) hC.1 hC.2.1 dX1_needsMet_62 (by decide) ?_
            exact cx_zret hC hr hk hw (by decide) ⟨_, _, rfl, Or.inr ⟨rfl, fun q => h12 ((sg_Nd.k1 (D := (kd, da, db)) k1 ha z0).mp q)⟩⟩ dX1_needsMet_63
    · refine lv_iconst (v := nI 1) hC.1 hC.2.1 dX1_needsMet_26 (by decide) ?_
      exact cx_zret hC hr hk hw (by decide) ⟨_, _, rfl, Or.inl ⟨rfl, sg_Nd.k0 (D := (kd, da, db)) k0 ha⟩⟩ dX1_needsMet_27
  · refine lv_aload_n hC.1 hC.2.1 dX1_needsMet_4 rfl (lv_at hl 0 rfl) ?_
    refine lv_iload_n hC.1 hC.2.1 dX1_needsMet_5 rfl (lv_at hl 1 rfl) ?_
    refine lv_iload_n hC.1 hC.2.1 dX1_needsMet_6 rfl (lv_at hl 2 rfl) ?_
    refine lv_iconst (v := nI 1) hC.1 hC.2.1 dX1_needsMet_7 (by decide) ?_
    refine xn_isub (r := k - 1) hC (by omega) dX1_needsMet_8 ?_
    refine cx_calli (ci := 1) (rest := []) (m_hasAt l (x := x) (k := k - 1) h01 (by omega) (by omega)) hC hml hl.1 hw rfl (cwV 2 hC.2.2.2 (lw_V q256 q258 qs24 q30 q259) rfl rfl rfl (by decide +kernel) ⟨Nat.le_of_ble_eq_true rfl, Nat.le_of_ble_eq_true rfl⟩) rfl rfl rfl rfl (Nat.le_of_ble_eq_true rfl) dX1_needsMet_9 ⟨Nat.zero_le _, Nat.zero_le _⟩ (fun r u' H locs hp hw => ?_)
    rcases hp with ⟨rfl, rfl, h13⟩ | ⟨rfl, rfl, h13⟩
    · refine xn_if_ne (tgt := 17) hC (by omega) dX1_needsMet_12 (by decide) (fun _ => ?_) (fun c => absurd c (by decide))
      have ha : sg_Aw (sg_tb hs vl) x k := Or.inr h13
      refine lv_aload_n hC.1 hC.2.1 dX1_needsMet_17 rfl (lv_at hl 0 rfl) ?_
      refine m_g_kind hC hw dX1_needsMet_18 ?_
      refine lv_iload_n hC.1 hC.2.1 dX1_needsMet_21 rfl (lv_at hl 1 rfl) ?_
      refine m_ld_kd (i := x) hC hw (by omega) dX1_needsMet_22 ?_
      refine xn_if_ne (tgt := 28) hC (by omega) dX1_needsMet_23 (by decide) (fun k0 => ?_) (fun k0 => ?_)
      · refine lv_aload_n hC.1 hC.2.1 dX1_needsMet_28 rfl (lv_at hl 0 rfl) ?_
        refine m_g_kind hC hw dX1_needsMet_29 ?_
        refine lv_iload_n hC.1 hC.2.1 dX1_needsMet_32 rfl (lv_at hl 1 rfl) ?_
        refine m_ld_kd (i := x) hC hw (by omega) dX1_needsMet_33 ?_
        refine lv_iconst (v := nI 1) hC.1 hC.2.1 dX1_needsMet_34 (by decide) ?_
        refine xn_icmp_ne (tgt := 64) hC (by omega) (by omega) dX1_needsMet_35 (by decide) (fun k1 => ?_) (fun k1 => ?_)
        · refine lv_aload_n hC.1 hC.2.1 dX1_needsMet_64 rfl (lv_at hl 0 rfl) ?_
          refine m_g_kind hC hw dX1_needsMet_65 ?_
          refine lv_iload_n hC.1 hC.2.1 dX1_needsMet_68 rfl (lv_at hl 1 rfl) ?_
          refine m_ld_kd (i := x) hC hw (by omega) dX1_needsMet_69 ?_
          refine lv_iconst (v := nI 2) hC.1 hC.2.1 dX1_needsMet_70 (by decide) ?_
          refine xn_icmp_ne (tgt := 88) hC (by omega) (by omega) dX1_needsMet_71 (by decide) (fun k2 => ?_) (fun k2 => ?_)
          · refine lv_aload_n hC.1 hC.2.1 dX1_needsMet_88 rfl (lv_at hl 0 rfl) ?_
            refine m_g_kind hC hw dX1_needsMet_89 ?_
            refine lv_iload_n hC.1 hC.2.1 dX1_needsMet_92 rfl (lv_at hl 1 rfl) ?_
            refine m_ld_kd (i := x) hC hw (by omega) dX1_needsMet_93 ?_
            refine lv_iconst (v := nI 3) hC.1 hC.2.1 dX1_needsMet_94 (by decide) ?_
            refine xn_icmp_eq (tgt := 108) hC (by omega) (by omega) dX1_needsMet_95 (by decide) (fun k3 => ?_) (fun k3 => ?_)
            · refine lv_aload_n hC.1 hC.2.1 dX1_needsMet_108 rfl (lv_at hl 0 rfl) ?_
              refine lv_aload_n hC.1 hC.2.1 dX1_needsMet_109 rfl (lv_at hl 0 rfl) ?_
              refine m_g_a hC hw dX1_needsMet_110 ?_
              refine lv_iload_n hC.1 hC.2.1 dX1_needsMet_113 rfl (lv_at hl 1 rfl) ?_
              refine m_ld_da (i := x) hC hw (by omega) dX1_needsMet_114 ?_
              refine lv_iload_n hC.1 hC.2.1 dX1_needsMet_115 rfl (lv_at hl 2 rfl) ?_
              have ea : da x = nI (sg_sa (kd, da, db) x) := (hD.a hs6 (by rw [hkd]; unfold sg_usA; omega)).2
              have ea6 : sg_sa (kd, da, db) x < 6 := (hD.a hs6 (by rw [hkd]; unfold sg_usA; omega)).1
              rw [ea]
              refine cx_calli (ci := 1) (rest := []) (m_hasAt l (x := sg_sa (kd, da, db) x) (k := k) h01 (by omega) (by omega)) hC hml hl.1 hw rfl (cwV 2 hC.2.2.2 (lw_V q256 q258 qs24 q30 q259) rfl rfl rfl (by decide +kernel) ⟨Nat.le_of_ble_eq_true rfl, Nat.le_of_ble_eq_true rfl⟩) rfl rfl rfl rfl (Nat.le_of_ble_eq_true rfl) dX1_needsMet_116 ⟨Nat.zero_le _, Nat.zero_le _⟩ (fun r u' H locs hp hw => ?_)
              rcases hp with ⟨rfl, rfl, h14⟩ | ⟨rfl, rfl, h14⟩
              · refine xn_if_eq (tgt := 140) hC (by omega) dX1_needsMet_119 (by decide) (fun c => absurd c (by decide)) (fun _ => ?_)
                refine lv_aload_n hC.1 hC.2.1 dX1_needsMet_122 rfl (lv_at hl 0 rfl) ?_
                refine lv_aload_n hC.1 hC.2.1 dX1_needsMet_123 rfl (lv_at hl 0 rfl) ?_
                refine m_g_b hC hw dX1_needsMet_124 ?_
                refine lv_iload_n hC.1 hC.2.1 dX1_needsMet_127 rfl (lv_at hl 1 rfl) ?_
                refine m_ld_db (i := x) hC hw (by omega) dX1_needsMet_128 ?_
                refine lv_iload_n hC.1 hC.2.1 dX1_needsMet_129 rfl (lv_at hl 2 rfl) ?_
                have eb : db x = nI (sg_sb (kd, da, db) x) := (hD.b hs6 (by rw [hkd]; unfold sg_usB; omega)).2
                have eb6 : sg_sb (kd, da, db) x < 6 := (hD.b hs6 (by rw [hkd]; unfold sg_usB; omega)).1
                rw [eb]
                refine cx_calli (ci := 1) (rest := []) (m_hasAt l (x := sg_sb (kd, da, db) x) (k := k) h01 (by omega) (by omega)) hC hml hl.1 hw rfl (cwV 2 hC.2.2.2 (lw_V q256 q258 qs24 q30 q259) rfl rfl rfl (by decide +kernel) ⟨Nat.le_of_ble_eq_true rfl, Nat.le_of_ble_eq_true rfl⟩) rfl rfl rfl rfl (Nat.le_of_ble_eq_true rfl) dX1_needsMet_130 ⟨Nat.zero_le _, Nat.zero_le _⟩ (fun r u' H locs hp hw => ?_)
                rcases hp with ⟨rfl, rfl, h15⟩ | ⟨rfl, rfl, h15⟩
                · refine xn_if_eq (tgt := 140) hC (by omega) dX1_needsMet_133 (by decide) (fun c => absurd c (by decide)) (fun _ => ?_)
                  refine lv_iconst (v := nI 1) hC.1 hC.2.1 dX1_needsMet_136 (by decide) ?_
                  refine lv_goto (tgt := 141) hC.1 hC.2.1 dX1_needsMet_137 (by decide) ?_
                  exact cx_zret hC hr hk hw (by decide) ⟨_, _, rfl, Or.inl ⟨rfl, (sg_Nd.k3 (D := (kd, da, db)) k3 ha).mpr ⟨h14, h15⟩⟩⟩ dX1_needsMet_141
                · refine xn_if_eq (tgt := 140) hC (by omega) dX1_needsMet_133 (by decide) (fun _ => ?_) (fun c => absurd c (by decide))
                  refine lv_iconst (v := nI 0) hC.1 hC.2.1 dX1_needsMet_140 (by decide) ?_
                  exact cx_zret hC hr hk hw (by decide) ⟨_, _, rfl, Or.inr ⟨rfl, fun q => h15 ((sg_Nd.k3 (D := (kd, da, db)) k3 ha).mp q).2⟩⟩ dX1_needsMet_141
              · refine xn_if_eq (tgt := 140) hC (by omega) dX1_needsMet_119 (by decide) (fun _ => ?_) (fun c => absurd c (by decide))
                refine lv_iconst (v := nI 0) hC.1 hC.2.1 dX1_needsMet_140 (by decide) ?_
                exact cx_zret hC hr hk hw (by decide) ⟨_, _, rfl, Or.inr ⟨rfl, fun q => h14 ((sg_Nd.k3 (D := (kd, da, db)) k3 ha).mp q).1⟩⟩ dX1_needsMet_141
            · refine lv_aload_n hC.1 hC.2.1 dX1_needsMet_98 rfl (lv_at hl 0 rfl) ?_
              refine m_g_kind hC hw dX1_needsMet_99 ?_
              refine lv_iload_n hC.1 hC.2.1 dX1_needsMet_102 rfl (lv_at hl 1 rfl) ?_
              refine m_ld_kd (i := x) hC hw (by omega) dX1_needsMet_103 ?_
              refine lv_iconst (v := nI 4) hC.1 hC.2.1 dX1_needsMet_104 (by decide) ?_
              refine xn_icmp_ne (tgt := 142) hC (by omega) (by omega) dX1_needsMet_105 (by decide) (fun k4 => ?_) (fun k4 => ?_)
              · refine lv_aload_n hC.1 hC.2.1 dX1_needsMet_142 rfl (lv_at hl 0 rfl) ?_
                refine m_g_kind hC hw dX1_needsMet_143 ?_
                refine lv_iload_n hC.1 hC.2.1 dX1_needsMet_146 rfl (lv_at hl 1 rfl) ?_
                refine m_ld_kd (i := x) hC hw (by omega) dX1_needsMet_147 ?_
                refine lv_iconst (v := nI 5) hC.1 hC.2.1 dX1_needsMet_148 (by decide) ?_
                refine xn_icmp_ne (tgt := 164) hC (by omega) (by omega) dX1_needsMet_149 (by decide) (fun k5 => ?_) (fun k5 => ?_)
                · refine lv_aload_n hC.1 hC.2.1 dX1_needsMet_164 rfl (lv_at hl 0 rfl) ?_
                  refine m_g_kind hC hw dX1_needsMet_165 ?_
                  refine lv_iload_n hC.1 hC.2.1 dX1_needsMet_168 rfl (lv_at hl 1 rfl) ?_
                  refine m_ld_kd (i := x) hC hw (by omega) dX1_needsMet_169 ?_
                  refine lv_bipush (v := nI 6) hC.1 hC.2.1 dX1_needsMet_170 (by decide) ?_
                  refine xn_icmp_ne (tgt := 187) hC (by omega) (by omega) dX1_needsMet_172 (by decide) (fun k6 => ?_) (fun k6 => ?_)
                  · refine lv_aload_n hC.1 hC.2.1 dX1_needsMet_187 rfl (lv_at hl 0 rfl) ?_
                    refine m_g_kind hC hw dX1_needsMet_188 ?_
                    refine lv_iload_n hC.1 hC.2.1 dX1_needsMet_191 rfl (lv_at hl 1 rfl) ?_
                    refine m_ld_kd (i := x) hC hw (by omega) dX1_needsMet_192 ?_
                    refine lv_bipush (v := nI 7) hC.1 hC.2.1 dX1_needsMet_193 (by decide) ?_
                    refine xn_icmp_ne (tgt := 234) hC (by omega) (by omega) dX1_needsMet_195 (by decide) (fun k7 => ?_) (fun k7 => ?_)
                    · refine lv_aload_n hC.1 hC.2.1 dX1_needsMet_234 rfl (lv_at hl 0 rfl) ?_
                      refine lv_iload_n hC.1 hC.2.1 dX1_needsMet_235 rfl (lv_at hl 1 rfl) ?_
                      refine lv_iload_n hC.1 hC.2.1 dX1_needsMet_236 rfl (lv_at hl 2 rfl) ?_
                      have h8 : kd x = 8 := by omega
                      obtain ⟨pq, hpq⟩ := hM.wk hs6 h8 ha
                      obtain ⟨pq1, pq2⟩ := sg_wk_le _ _ hpq
                      refine cx_callv (ci := 1) (rest := []) (m_walk l (x := x) (k := k) hD hs6 h8 hk20 hpq) hC hml hl.1 hw rfl (cwV 2 hC.2.2.2 (lw_V q260 q262 qs25 q30 q263) rfl rfl rfl (by decide +kernel) ⟨Nat.le_of_ble_eq_true rfl, Nat.le_of_ble_eq_true rfl⟩) rfl rfl rfl rfl (Nat.le_of_ble_eq_true rfl) dX1_needsMet_237 ⟨Nat.zero_le _, Nat.zero_le _⟩ (fun u' H locs hp hw => ?_)
                      have hp := hp
                      subst hp
                      refine lv_aload_n hC.1 hC.2.1 dX1_needsMet_240 rfl (lv_at hl 0 rfl) ?_
                      refine lv_aload_n hC.1 hC.2.1 dX1_needsMet_241 rfl (lv_at hl 0 rfl) ?_
                      refine m_g_a hC hw dX1_needsMet_242 ?_
                      refine lv_iload_n hC.1 hC.2.1 dX1_needsMet_245 rfl (lv_at hl 1 rfl) ?_
                      refine m_ld_da (i := x) hC hw (by omega) dX1_needsMet_246 ?_
                      refine lv_aload_n hC.1 hC.2.1 dX1_needsMet_247 rfl (lv_at hl 0 rfl) ?_
                      refine m_g_placeA hC hw dX1_needsMet_248 ?_
                      have ea : da x = nI (sg_sa (kd, da, db) x) := (hD.a hs6 (by rw [hkd]; unfold sg_usA; omega)).2
                      have ea6 : sg_sa (kd, da, db) x < 6 := (hD.a hs6 (by rw [hkd]; unfold sg_usA; omega)).1
                      rw [ea]
                      refine cx_calli (ci := 1) (rest := []) (m_hasAt l (x := sg_sa (kd, da, db) x) (k := pq.1) h01 (by omega) (by omega)) hC hml hl.1 hw rfl (cwV 2 hC.2.2.2 (lw_V q256 q258 qs24 q30 q259) rfl rfl rfl (by decide +kernel) ⟨Nat.le_of_ble_eq_true rfl, Nat.le_of_ble_eq_true rfl⟩) rfl rfl rfl rfl (Nat.le_of_ble_eq_true rfl) dX1_needsMet_251 ⟨Nat.zero_le _, Nat.zero_le _⟩ (fun r u' H locs hp hw => ?_)
                      rcases hp with ⟨rfl, rfl, h16⟩ | ⟨rfl, rfl, h16⟩
                      · refine xn_if_eq (tgt := 278) hC (by omega) dX1_needsMet_254 (by decide) (fun c => absurd c (by decide)) (fun _ => ?_)
                        refine lv_aload_n hC.1 hC.2.1 dX1_needsMet_257 rfl (lv_at hl 0 rfl) ?_
                        refine lv_aload_n hC.1 hC.2.1 dX1_needsMet_258 rfl (lv_at hl 0 rfl) ?_
                        refine m_g_b hC hw dX1_needsMet_259 ?_
                        refine lv_iload_n hC.1 hC.2.1 dX1_needsMet_262 rfl (lv_at hl 1 rfl) ?_
                        refine m_ld_db (i := x) hC hw (by omega) dX1_needsMet_263 ?_
                        refine lv_aload_n hC.1 hC.2.1 dX1_needsMet_264 rfl (lv_at hl 0 rfl) ?_
                        refine m_g_placeB hC hw dX1_needsMet_265 ?_
                        have eb : db x = nI (sg_sb (kd, da, db) x) := (hD.b hs6 (by rw [hkd]; unfold sg_usB; omega)).2
                        have eb6 : sg_sb (kd, da, db) x < 6 := (hD.b hs6 (by rw [hkd]; unfold sg_usB; omega)).1
                        rw [eb]
                        refine cx_calli (ci := 1) (rest := []) (m_hasAt l (x := sg_sb (kd, da, db) x) (k := pq.2) h01 (by omega) (by omega)) hC hml hl.1 hw rfl (cwV 2 hC.2.2.2 (lw_V q256 q258 qs24 q30 q259) rfl rfl rfl (by decide +kernel) ⟨Nat.le_of_ble_eq_true rfl, Nat.le_of_ble_eq_true rfl⟩) rfl rfl rfl rfl (Nat.le_of_ble_eq_true rfl) dX1_needsMet_268 ⟨Nat.zero_le _, Nat.zero_le _⟩ (fun r u' H locs hp hw => ?_)
                        rcases hp with ⟨rfl, rfl, h17⟩ | ⟨rfl, rfl, h17⟩
                        · refine xn_if_eq (tgt := 278) hC (by omega) dX1_needsMet_271 (by decide) (fun c => absurd c (by decide)) (fun _ => ?_)
                          refine lv_iconst (v := nI 1) hC.1 hC.2.1 dX1_needsMet_274 (by decide) ?_
                          refine lv_goto (tgt := 279) hC.1 hC.2.1 dX1_needsMet_275 (by decide) ?_
                          exact cx_zret hC hr hk hw (by decide) ⟨_, _, rfl, Or.inl ⟨rfl, (sg_Nd.k8 (D := (kd, da, db)) h8 ha hpq).mpr ⟨h16, h17⟩⟩⟩ dX1_needsMet_279
                        · refine xn_if_eq (tgt := 278) hC (by omega) dX1_needsMet_271 (by decide) (fun _ => ?_) (fun c => absurd c (by decide))
                          refine lv_iconst (v := nI 0) hC.1 hC.2.1 dX1_needsMet_278 (by decide) ?_
                          exact cx_zret hC hr hk hw (by decide) ⟨_, _, rfl, Or.inr ⟨rfl, fun q => h17 ((sg_Nd.k8 (D := (kd, da, db)) h8 ha hpq).mp q).2⟩⟩ dX1_needsMet_279
                      · refine xn_if_eq (tgt := 278) hC (by omega) dX1_needsMet_254 (by decide) (fun _ => ?_) (fun c => absurd c (by decide))
                        refine lv_iconst (v := nI 0) hC.1 hC.2.1 dX1_needsMet_278 (by decide) ?_
                        exact cx_zret hC hr hk hw (by decide) ⟨_, _, rfl, Or.inr ⟨rfl, fun q => h16 ((sg_Nd.k8 (D := (kd, da, db)) h8 ha hpq).mp q).1⟩⟩ dX1_needsMet_279
                    · refine lv_iload_n hC.1 hC.2.1 dX1_needsMet_198 rfl (lv_at hl 2 rfl) ?_
                      refine lv_iconst (v := nI 2) hC.1 hC.2.1 dX1_needsMet_199 (by decide) ?_
                      refine xn_irem (r := k % 2) hC (by omega) (by omega) (by omega) rfl dX1_needsMet_200 ?_
                      refine xn_if_ne (tgt := 220) hC (by omega) dX1_needsMet_201 (by decide) (fun ev => ?_) (fun ev => ?_)
                      · refine lv_aload_n hC.1 hC.2.1 dX1_needsMet_220 rfl (lv_at hl 0 rfl) ?_
                        refine lv_aload_n hC.1 hC.2.1 dX1_needsMet_221 rfl (lv_at hl 0 rfl) ?_
                        refine m_g_b hC hw dX1_needsMet_222 ?_
                        refine lv_iload_n hC.1 hC.2.1 dX1_needsMet_225 rfl (lv_at hl 1 rfl) ?_
                        refine m_ld_db (i := x) hC hw (by omega) dX1_needsMet_226 ?_
                        refine lv_iload_n hC.1 hC.2.1 dX1_needsMet_227 rfl (lv_at hl 2 rfl) ?_
                        refine lv_iconst (v := nI 2) hC.1 hC.2.1 dX1_needsMet_228 (by decide) ?_
                        refine xn_idiv (r := k / 2) hC (by omega) (by omega) (by omega) rfl dX1_needsMet_229 ?_
                        have eb : db x = nI (sg_sb (kd, da, db) x) := (hD.b hs6 (by rw [hkd]; unfold sg_usB; omega)).2
                        have eb6 : sg_sb (kd, da, db) x < 6 := (hD.b hs6 (by rw [hkd]; unfold sg_usB; omega)).1
                        rw [eb]
                        refine cx_calli (ci := 1) (rest := []) (m_hasAt l (x := sg_sb (kd, da, db) x) (k := k / 2) h01 (by omega) (by omega)) hC hml hl.1 hw rfl (cwV 2 hC.2.2.2 (lw_V q256 q258 qs24 q30 q259) rfl rfl rfl (by decide +kernel) ⟨Nat.le_of_ble_eq_true rfl, Nat.le_of_ble_eq_true rfl⟩) rfl rfl rfl rfl (Nat.le_of_ble_eq_true rfl) dX1_needsMet_230 ⟨Nat.zero_le _, Nat.zero_le _⟩ (fun r u' H locs hp hw => ?_)
                        rcases hp with ⟨rfl, rfl, h18⟩ | ⟨rfl, rfl, h18⟩
                        · exact cx_zret hC hr hk hw (by decide) ⟨_, _, rfl, Or.inl ⟨rfl, (sg_Nd.k7o (D := (kd, da, db)) k7 ha ev).mpr h18⟩⟩ dX1_needsMet_233
                        · exact cx_zret hC hr hk hw (by decide) ⟨_, _, rfl, Or.inr ⟨rfl, fun q => h18 ((sg_Nd.k7o (D := (kd, da, db)) k7 ha ev).mp q)⟩⟩ dX1_needsMet_233
                      · refine lv_aload_n hC.1 hC.2.1 dX1_needsMet_204 rfl (lv_at hl 0 rfl) ?_
                        refine lv_aload_n hC.1 hC.2.1 dX1_needsMet_205 rfl (lv_at hl 0 rfl) ?_
                        refine m_g_a hC hw dX1_needsMet_206 ?_
                        refine lv_iload_n hC.1 hC.2.1 dX1_needsMet_209 rfl (lv_at hl 1 rfl) ?_
                        refine m_ld_da (i := x) hC hw (by omega) dX1_needsMet_210 ?_
                        refine lv_iload_n hC.1 hC.2.1 dX1_needsMet_211 rfl (lv_at hl 2 rfl) ?_
                        refine lv_iconst (v := nI 2) hC.1 hC.2.1 dX1_needsMet_212 (by decide) ?_
                        refine xn_idiv (r := k / 2) hC (by omega) (by omega) (by omega) rfl dX1_needsMet_213 ?_
                        have ea : da x = nI (sg_sa (kd, da, db) x) := (hD.a hs6 (by rw [hkd]; unfold sg_usA; omega)).2
                        have ea6 : sg_sa (kd, da, db) x < 6 := (hD.a hs6 (by rw [hkd]; unfold sg_usA; omega)).1
                        rw [ea]
                        refine cx_calli (ci := 1) (rest := []) (m_hasAt l (x := sg_sa (kd, da, db) x) (k := k / 2) h01 (by omega) (by omega)) hC hml hl.1 hw rfl (cwV 2 hC.2.2.2 (lw_V q256 q258 qs24 q30 q259) rfl rfl rfl (by decide +kernel) ⟨Nat.le_of_ble_eq_true rfl, Nat.le_of_ble_eq_true rfl⟩) rfl rfl rfl rfl (Nat.le_of_ble_eq_true rfl) dX1_needsMet_214 ⟨Nat.zero_le _, Nat.zero_le _⟩ (fun r u' H locs hp hw => ?_)
                        rcases hp with ⟨rfl, rfl, h19⟩ | ⟨rfl, rfl, h19⟩
                        · refine lv_goto (tgt := 233) hC.1 hC.2.1 dX1_needsMet_217 (by decide) ?_
                          exact cx_zret hC hr hk hw (by decide) ⟨_, _, rfl, Or.inl ⟨rfl, (sg_Nd.k7e (D := (kd, da, db)) k7 ha ev).mpr h19⟩⟩ dX1_needsMet_233
                        · refine lv_goto (tgt := 233) hC.1 hC.2.1 dX1_needsMet_217 (by decide) ?_
                          exact cx_zret hC hr hk hw (by decide) ⟨_, _, rfl, Or.inr ⟨rfl, fun q => h19 ((sg_Nd.k7e (D := (kd, da, db)) k7 ha ev).mp q)⟩⟩ dX1_needsMet_233
                  · refine lv_aload_n hC.1 hC.2.1 dX1_needsMet_175 rfl (lv_at hl 0 rfl) ?_
                    refine lv_aload_n hC.1 hC.2.1 dX1_needsMet_176 rfl (lv_at hl 0 rfl) ?_
                    refine m_g_a hC hw dX1_needsMet_177 ?_
                    refine lv_iload_n hC.1 hC.2.1 dX1_needsMet_180 rfl (lv_at hl 1 rfl) ?_
                    refine m_ld_da (i := x) hC hw (by omega) dX1_needsMet_181 ?_
                    refine lv_iload_n hC.1 hC.2.1 dX1_needsMet_182 rfl (lv_at hl 2 rfl) ?_
                    have ea : da x = nI (sg_sa (kd, da, db) x) := (hD.a hs6 (by rw [hkd]; unfold sg_usA; omega)).2
                    have ea6 : sg_sa (kd, da, db) x < 6 := (hD.a hs6 (by rw [hkd]; unfold sg_usA; omega)).1
                    rw [ea]
                    refine cx_calli (ci := 1) (rest := []) (m_hasAt l (x := sg_sa (kd, da, db) x) (k := k) h01 (by omega) (by omega)) hC hml hl.1 hw rfl (cwV 2 hC.2.2.2 (lw_V q256 q258 qs24 q30 q259) rfl rfl rfl (by decide +kernel) ⟨Nat.le_of_ble_eq_true rfl, Nat.le_of_ble_eq_true rfl⟩) rfl rfl rfl rfl (Nat.le_of_ble_eq_true rfl) dX1_needsMet_183 ⟨Nat.zero_le _, Nat.zero_le _⟩ (fun r u' H locs hp hw => ?_)
                    rcases hp with ⟨rfl, rfl, h20⟩ | ⟨rfl, rfl, h20⟩
                    · exact cx_zret hC hr hk hw (by decide) ⟨_, _, rfl, Or.inl ⟨rfl, (sg_Nd.k6 (D := (kd, da, db)) hM ea6 k6 ha).mpr h20⟩⟩ dX1_needsMet_186
                    · exact cx_zret hC hr hk hw (by decide) ⟨_, _, rfl, Or.inr ⟨rfl, fun q => h20 ((sg_Nd.k6 (D := (kd, da, db)) hM ea6 k6 ha).mp q)⟩⟩ dX1_needsMet_186
                · refine lv_aload_n hC.1 hC.2.1 dX1_needsMet_152 rfl (lv_at hl 0 rfl) ?_
                  refine lv_aload_n hC.1 hC.2.1 dX1_needsMet_153 rfl (lv_at hl 0 rfl) ?_
                  refine m_g_b hC hw dX1_needsMet_154 ?_
                  refine lv_iload_n hC.1 hC.2.1 dX1_needsMet_157 rfl (lv_at hl 1 rfl) ?_
                  refine m_ld_db (i := x) hC hw (by omega) dX1_needsMet_158 ?_
                  refine lv_iload_n hC.1 hC.2.1 dX1_needsMet_159 rfl (lv_at hl 2 rfl) ?_
                  have eb : db x = nI (sg_sb (kd, da, db) x) := (hD.b hs6 (by rw [hkd]; unfold sg_usB; omega)).2
                  have eb6 : sg_sb (kd, da, db) x < 6 := (hD.b hs6 (by rw [hkd]; unfold sg_usB; omega)).1
                  rw [eb]
                  refine cx_calli (ci := 1) (rest := []) (m_hasAt l (x := sg_sb (kd, da, db) x) (k := k) h01 (by omega) (by omega)) hC hml hl.1 hw rfl (cwV 2 hC.2.2.2 (lw_V q256 q258 qs24 q30 q259) rfl rfl rfl (by decide +kernel) ⟨Nat.le_of_ble_eq_true rfl, Nat.le_of_ble_eq_true rfl⟩) rfl rfl rfl rfl (Nat.le_of_ble_eq_true rfl) dX1_needsMet_160 ⟨Nat.zero_le _, Nat.zero_le _⟩ (fun r u' H locs hp hw => ?_)
                  rcases hp with ⟨rfl, rfl, h21⟩ | ⟨rfl, rfl, h21⟩
                  · exact cx_zret hC hr hk hw (by decide) ⟨_, _, rfl, Or.inl ⟨rfl, (sg_Nd.k5 (D := (kd, da, db)) k5 ha).mpr h21⟩⟩ dX1_needsMet_163
                  · exact cx_zret hC hr hk hw (by decide) ⟨_, _, rfl, Or.inr ⟨rfl, fun q => h21 ((sg_Nd.k5 (D := (kd, da, db)) k5 ha).mp q)⟩⟩ dX1_needsMet_163
              · refine lv_aload_n hC.1 hC.2.1 dX1_needsMet_108 rfl (lv_at hl 0 rfl) ?_
                refine lv_aload_n hC.1 hC.2.1 dX1_needsMet_109 rfl (lv_at hl 0 rfl) ?_
                refine m_g_a hC hw dX1_needsMet_110 ?_
                refine lv_iload_n hC.1 hC.2.1 dX1_needsMet_113 rfl (lv_at hl 1 rfl) ?_
                refine m_ld_da (i := x) hC hw (by omega) dX1_needsMet_114 ?_
                refine lv_iload_n hC.1 hC.2.1 dX1_needsMet_115 rfl (lv_at hl 2 rfl) ?_
                have ea : da x = nI (sg_sa (kd, da, db) x) := (hD.a hs6 (by rw [hkd]; unfold sg_usA; omega)).2
                have ea6 : sg_sa (kd, da, db) x < 6 := (hD.a hs6 (by rw [hkd]; unfold sg_usA; omega)).1
                rw [ea]
                refine cx_calli (ci := 1) (rest := []) (m_hasAt l (x := sg_sa (kd, da, db) x) (k := k) h01 (by omega) (by omega)) hC hml hl.1 hw rfl (cwV 2 hC.2.2.2 (lw_V q256 q258 qs24 q30 q259) rfl rfl rfl (by decide +kernel) ⟨Nat.le_of_ble_eq_true rfl, Nat.le_of_ble_eq_true rfl⟩) rfl rfl rfl rfl (Nat.le_of_ble_eq_true rfl) dX1_needsMet_116 ⟨Nat.zero_le _, Nat.zero_le _⟩ (fun r u' H locs hp hw => ?_)
                rcases hp with ⟨rfl, rfl, h22⟩ | ⟨rfl, rfl, h22⟩
                · refine xn_if_eq (tgt := 140) hC (by omega) dX1_needsMet_119 (by decide) (fun c => absurd c (by decide)) (fun _ => ?_)
                  refine lv_aload_n hC.1 hC.2.1 dX1_needsMet_122 rfl (lv_at hl 0 rfl) ?_
                  refine lv_aload_n hC.1 hC.2.1 dX1_needsMet_123 rfl (lv_at hl 0 rfl) ?_
                  refine m_g_b hC hw dX1_needsMet_124 ?_
                  refine lv_iload_n hC.1 hC.2.1 dX1_needsMet_127 rfl (lv_at hl 1 rfl) ?_
                  refine m_ld_db (i := x) hC hw (by omega) dX1_needsMet_128 ?_
                  refine lv_iload_n hC.1 hC.2.1 dX1_needsMet_129 rfl (lv_at hl 2 rfl) ?_
                  have eb : db x = nI (sg_sb (kd, da, db) x) := (hD.b hs6 (by rw [hkd]; unfold sg_usB; omega)).2
                  have eb6 : sg_sb (kd, da, db) x < 6 := (hD.b hs6 (by rw [hkd]; unfold sg_usB; omega)).1
                  rw [eb]
                  refine cx_calli (ci := 1) (rest := []) (m_hasAt l (x := sg_sb (kd, da, db) x) (k := k) h01 (by omega) (by omega)) hC hml hl.1 hw rfl (cwV 2 hC.2.2.2 (lw_V q256 q258 qs24 q30 q259) rfl rfl rfl (by decide +kernel) ⟨Nat.le_of_ble_eq_true rfl, Nat.le_of_ble_eq_true rfl⟩) rfl rfl rfl rfl (Nat.le_of_ble_eq_true rfl) dX1_needsMet_130 ⟨Nat.zero_le _, Nat.zero_le _⟩ (fun r u' H locs hp hw => ?_)
                  rcases hp with ⟨rfl, rfl, h23⟩ | ⟨rfl, rfl, h23⟩
                  · refine xn_if_eq (tgt := 140) hC (by omega) dX1_needsMet_133 (by decide) (fun c => absurd c (by decide)) (fun _ => ?_)
                    refine lv_iconst (v := nI 1) hC.1 hC.2.1 dX1_needsMet_136 (by decide) ?_
                    refine lv_goto (tgt := 141) hC.1 hC.2.1 dX1_needsMet_137 (by decide) ?_
                    exact cx_zret hC hr hk hw (by decide) ⟨_, _, rfl, Or.inl ⟨rfl, (sg_Nd.k4 (D := (kd, da, db)) k4 ha).mpr ⟨h22, h23⟩⟩⟩ dX1_needsMet_141
                  · refine xn_if_eq (tgt := 140) hC (by omega) dX1_needsMet_133 (by decide) (fun _ => ?_) (fun c => absurd c (by decide))
                    refine lv_iconst (v := nI 0) hC.1 hC.2.1 dX1_needsMet_140 (by decide) ?_
                    exact cx_zret hC hr hk hw (by decide) ⟨_, _, rfl, Or.inr ⟨rfl, fun q => h23 ((sg_Nd.k4 (D := (kd, da, db)) k4 ha).mp q).2⟩⟩ dX1_needsMet_141
                · refine xn_if_eq (tgt := 140) hC (by omega) dX1_needsMet_119 (by decide) (fun _ => ?_) (fun c => absurd c (by decide))
                  refine lv_iconst (v := nI 0) hC.1 hC.2.1 dX1_needsMet_140 (by decide) ?_
                  exact cx_zret hC hr hk hw (by decide) ⟨_, _, rfl, Or.inr ⟨rfl, fun q => h22 ((sg_Nd.k4 (D := (kd, da, db)) k4 ha).mp q).1⟩⟩ dX1_needsMet_141
          · refine lv_aload_n hC.1 hC.2.1 dX1_needsMet_74 rfl (lv_at hl 0 rfl) ?_
            refine lv_aload_n hC.1 hC.2.1 dX1_needsMet_75 rfl (lv_at hl 0 rfl) ?_
            refine m_g_a hC hw dX1_needsMet_76 ?_
            refine lv_iload_n hC.1 hC.2.1 dX1_needsMet_79 rfl (lv_at hl 1 rfl) ?_
            refine m_ld_da (i := x) hC hw (by omega) dX1_needsMet_80 ?_
            refine lv_iload_n hC.1 hC.2.1 dX1_needsMet_81 rfl (lv_at hl 2 rfl) ?_
            refine lv_iconst (v := nI 1) hC.1 hC.2.1 dX1_needsMet_82 (by decide) ?_
            refine xn_iadd (r := k + 1) hC rfl dX1_needsMet_83 ?_
            have ea : da x = nI (sg_sa (kd, da, db) x) := (hD.a hs6 (by rw [hkd]; unfold sg_usA; omega)).2
            have ea6 : sg_sa (kd, da, db) x < 6 := (hD.a hs6 (by rw [hkd]; unfold sg_usA; omega)).1
            rw [ea]
            refine cx_calli (ci := 1) (rest := []) (m_hasAt l (x := sg_sa (kd, da, db) x) (k := k + 1) h01 (by omega) (by omega)) hC hml hl.1 hw rfl (cwV 2 hC.2.2.2 (lw_V q256 q258 qs24 q30 q259) rfl rfl rfl (by decide +kernel) ⟨Nat.le_of_ble_eq_true rfl, Nat.le_of_ble_eq_true rfl⟩) rfl rfl rfl rfl (Nat.le_of_ble_eq_true rfl) dX1_needsMet_84 ⟨Nat.zero_le _, Nat.zero_le _⟩ (fun r u' H locs hp hw => ?_)
            rcases hp with ⟨rfl, rfl, h24⟩ | ⟨rfl, rfl, h24⟩
            · exact cx_zret hC hr hk hw (by decide) ⟨_, _, rfl, Or.inl ⟨rfl, (sg_Nd.k2 (D := (kd, da, db)) k2 ha).mpr h24⟩⟩ dX1_needsMet_87
            · exact cx_zret hC hr hk hw (by decide) ⟨_, _, rfl, Or.inr ⟨rfl, fun q => h24 ((sg_Nd.k2 (D := (kd, da, db)) k2 ha).mp q)⟩⟩ dX1_needsMet_87
        · refine lv_iload_n hC.1 hC.2.1 dX1_needsMet_38 rfl (lv_at hl 2 rfl) ?_
          refine xn_if_eq (tgt := 58) hC (by omega) dX1_needsMet_39 (by decide) (fun z0 => ?_) (fun z0 => ?_)
          · refine lv_iconst (v := nI 1) hC.1 hC.2.1 dX1_needsMet_58 (by decide) ?_
            refine lv_goto (tgt := 63) hC.1 hC.2.1 dX1_needsMet_59 (by decide) ?_
            exact cx_zret hC hr hk hw (by decide) ⟨_, _, rfl, Or.inl ⟨rfl, by rw [z0]; exact sg_Nd.k1z (D := (kd, da, db)) k1⟩⟩ dX1_needsMet_63
          · refine lv_aload_n hC.1 hC.2.1 dX1_needsMet_42 rfl (lv_at hl 0 rfl) ?_
            refine lv_aload_n hC.1 hC.2.1 dX1_needsMet_43 rfl (lv_at hl 0 rfl) ?_
            refine m_g_b hC hw dX1_needsMet_44 ?_
            refine lv_iload_n hC.1 hC.2.1 dX1_needsMet_47 rfl (lv_at hl 1 rfl) ?_
            refine m_ld_db (i := x) hC hw (by omega) dX1_needsMet_48 ?_
            refine lv_iload_n hC.1 hC.2.1 dX1_needsMet_49 rfl (lv_at hl 2 rfl) ?_
            refine lv_iconst (v := nI 1) hC.1 hC.2.1 dX1_needsMet_50 (by decide) ?_
            refine xn_isub (r := k - 1) hC (by omega) dX1_needsMet_51 ?_
            have eb : db x = nI (sg_sb (kd, da, db) x) := (hD.b hs6 (by rw [hkd]; unfold sg_usB; omega)).2
            have eb6 : sg_sb (kd, da, db) x < 6 := (hD.b hs6 (by rw [hkd]; unfold sg_usB; omega)).1
            rw [eb]
            refine cx_calli (ci := 1) (rest := []) (m_hasAt l (x := sg_sb (kd, da, db) x) (k := k - 1) h01 (by omega) (by omega)) hC hml hl.1 hw rfl (cwV 2 hC.2.2.2 (lw_V q256 q258 qs24 q30 q259) rfl rfl rfl (by decide +kernel) ⟨Nat.le_of_ble_eq_true rfl, Nat.le_of_ble_eq_true rfl⟩) rfl rfl rfl rfl (Nat.le_of_ble_eq_true rfl) dX1_needsMet_52 ⟨Nat.zero_le _, Nat.zero_le _⟩ (fun r u' H locs hp hw => ?_)
            rcases hp with ⟨rfl, rfl, h25⟩ | ⟨rfl, rfl, h25⟩
            · refine xn_if_eq (tgt := 62) hC (by omega) dX1_needsMet_55 (by decide) (fun c => absurd c (by decide)) (fun _ => ?_)
              refine lv_iconst (v := nI 1) hC.1 hC.2.1 dX1_needsMet_58 (by decide) ?_
              refine lv_goto (tgt := 63) hC.1 hC.2.1 dX1_needsMet_59 (by decide) ?_
              exact cx_zret hC hr hk hw (by decide) ⟨_, _, rfl, Or.inl ⟨rfl, (sg_Nd.k1 (D := (kd, da, db)) k1 ha z0).mpr h25⟩⟩ dX1_needsMet_63
            · refine xn_if_eq (tgt := 62) hC (by omega) dX1_needsMet_55 (by decide) (fun _ => ?_) (fun c => absurd c (by decide))
              refine lv_iconst (v := nI 0) hC.1 hC.2.1 dX1_needsMet_62 (by decide) ?_
              exact cx_zret hC hr hk hw (by decide) ⟨_, _, rfl, Or.inr ⟨rfl, fun q => h25 ((sg_Nd.k1 (D := (kd, da, db)) k1 ha z0).mp q)⟩⟩ dX1_needsMet_63
      · refine lv_iconst (v := nI 1) hC.1 hC.2.1 dX1_needsMet_26 (by decide) ?_
        exact cx_zret hC hr hk hw (by decide) ⟨_, _, rfl, Or.inl ⟨rfl, sg_Nd.k0 (D := (kd, da, db)) k0 ha⟩⟩ dX1_needsMet_27
    · refine xn_if_ne (tgt := 17) hC (by omega) dX1_needsMet_12 (by decide) (fun c => absurd c (by decide)) (fun _ => ?_)
      refine lv_iconst (v := nI 0) hC.1 hC.2.1 dX1_needsMet_15 (by decide) ?_
      exact cx_zret hC hr hk hw (by decide) ⟨_, _, rfl, Or.inr ⟨rfl, sg_Nd.no (fun q => by rcases q with q | q; omega; exact h13 q)⟩⟩ dX1_needsMet_16
set_option maxHeartbeats 4000000 in
set_option maxRecDepth 100000 in
/-- the element -/
theorem m_worth (l : Launch) {kd : Nat → Nat} {da : Nat → Int32} {db : Nat → Int32} {hs : Nat → Nat} {vl : Nat → Int32} {pa : Nat} {pb : Nat} {x k : Nat} {v : Int32} (hD : sg_Ok (kd, da, db)) (h01 : ∀ j, j < 126 → hs j ≤ 1) (hM : sg_Mi (kd, da, db) (sg_tb hs vl)) (hs6 : x < 6) (hk20 : k ≤ 20) (hv : sg_F (kd, da, db) (sg_tb hs vl) x k = some v) : cx_Mi l yX1_worth cX1_worth 5 (some .int) ({ frames := 2, cells := 0, slots := 0, locals := 47 }) mW mT [.int (nI x), .int (nI k)] (fun u => u = (kd, da, db, hs, vl, pa, pb)) (fun _ r' u' => ∃ pa' pb', u' = (kd, da, db, hs, vl, pa', pb') ∧ r' = v) := by
  refine cx_Mi.of (by decide) (fun _ => Nat.le_of_ble_eq_true rfl) ?_
  intro p e s m below meth c Dg ad ct A u ls hu hC hml hr hk hw hl
  subst hu
  have hC : cx_C p m c cX1_worth s _ RX1 := hC
  have hl : lv_has ls 5 [(0, .ref (ad 0)), (1, .int (nI x)), (2, .int (nI k))] := hl
  have hkd : sg_kd (kd, da, db) x = kd x := rfl
  have hk8 : kd x ≤ 8 := hD.k hs6
  obtain ⟨ha, hg⟩ := sg_F_some hv
  rw [hkd] at hg
  refine lv_aload_n hC.1 hC.2.1 dX1_worth_0 rfl (lv_at hl 0 rfl) ?_
  refine m_g_kind hC hw dX1_worth_1 ?_
  refine lv_iload_n hC.1 hC.2.1 dX1_worth_4 rfl (lv_at hl 1 rfl) ?_
  refine m_ld_kd (i := x) hC hw (by omega) dX1_worth_5 ?_
  refine xn_if_ne (tgt := 25) hC (by omega) dX1_worth_6 (by decide) (fun k0 => ?_) (fun k0 => ?_)
  · refine lv_aload_n hC.1 hC.2.1 dX1_worth_25 rfl (lv_at hl 0 rfl) ?_
    refine m_g_kind hC hw dX1_worth_26 ?_
    refine lv_iload_n hC.1 hC.2.1 dX1_worth_29 rfl (lv_at hl 1 rfl) ?_
    refine m_ld_kd (i := x) hC hw (by omega) dX1_worth_30 ?_
    refine lv_iconst (v := nI 1) hC.1 hC.2.1 dX1_worth_31 (by decide) ?_
    refine xn_icmp_ne (tgt := 62) hC (by omega) (by omega) dX1_worth_32 (by decide) (fun k1 => ?_) (fun k1 => ?_)
    · refine lv_aload_n hC.1 hC.2.1 dX1_worth_62 rfl (lv_at hl 0 rfl) ?_
      refine m_g_kind hC hw dX1_worth_63 ?_
      refine lv_iload_n hC.1 hC.2.1 dX1_worth_66 rfl (lv_at hl 1 rfl) ?_
      refine m_ld_kd (i := x) hC hw (by omega) dX1_worth_67 ?_
      refine lv_iconst (v := nI 2) hC.1 hC.2.1 dX1_worth_68 (by decide) ?_
      refine xn_icmp_ne (tgt := 86) hC (by omega) (by omega) dX1_worth_69 (by decide) (fun k2 => ?_) (fun k2 => ?_)
      · refine lv_aload_n hC.1 hC.2.1 dX1_worth_86 rfl (lv_at hl 0 rfl) ?_
        refine m_g_kind hC hw dX1_worth_87 ?_
        refine lv_iload_n hC.1 hC.2.1 dX1_worth_90 rfl (lv_at hl 1 rfl) ?_
        refine m_ld_kd (i := x) hC hw (by omega) dX1_worth_91 ?_
        refine lv_iconst (v := nI 3) hC.1 hC.2.1 dX1_worth_92 (by decide) ?_
        refine xn_icmp_ne (tgt := 120) hC (by omega) (by omega) dX1_worth_93 (by decide) (fun k3 => ?_) (fun k3 => ?_)
        · refine lv_aload_n hC.1 hC.2.1 dX1_worth_120 rfl (lv_at hl 0 rfl) ?_
          refine m_g_kind hC hw dX1_worth_121 ?_
          refine lv_iload_n hC.1 hC.2.1 dX1_worth_124 rfl (lv_at hl 1 rfl) ?_
          refine m_ld_kd (i := x) hC hw (by omega) dX1_worth_125 ?_
          refine lv_iconst (v := nI 4) hC.1 hC.2.1 dX1_worth_126 (by decide) ?_
          refine xn_icmp_ne (tgt := 154) hC (by omega) (by omega) dX1_worth_127 (by decide) (fun k4 => ?_) (fun k4 => ?_)
          · refine lv_aload_n hC.1 hC.2.1 dX1_worth_154 rfl (lv_at hl 0 rfl) ?_
            refine m_g_kind hC hw dX1_worth_155 ?_
            refine lv_iload_n hC.1 hC.2.1 dX1_worth_158 rfl (lv_at hl 1 rfl) ?_
            refine m_ld_kd (i := x) hC hw (by omega) dX1_worth_159 ?_
            refine lv_iconst (v := nI 5) hC.1 hC.2.1 dX1_worth_160 (by decide) ?_
            refine xn_icmp_ne (tgt := 183) hC (by omega) (by omega) dX1_worth_161 (by decide) (fun k5 => ?_) (fun k5 => ?_)
            · refine lv_aload_n hC.1 hC.2.1 dX1_worth_183 rfl (lv_at hl 0 rfl) ?_
              refine m_g_kind hC hw dX1_worth_184 ?_
              refine lv_iload_n hC.1 hC.2.1 dX1_worth_187 rfl (lv_at hl 1 rfl) ?_
              refine m_ld_kd (i := x) hC hw (by omega) dX1_worth_188 ?_
              refine lv_bipush (v := nI 7) hC.1 hC.2.1 dX1_worth_189 (by decide) ?_
              refine xn_icmp_ne (tgt := 230) hC (by omega) (by omega) dX1_worth_191 (by decide) (fun k7 => ?_) (fun k7 => ?_)
              · refine lv_aload_n hC.1 hC.2.1 dX1_worth_230 rfl (lv_at hl 0 rfl) ?_
                refine m_g_kind hC hw dX1_worth_231 ?_
                refine lv_iload_n hC.1 hC.2.1 dX1_worth_234 rfl (lv_at hl 1 rfl) ?_
                refine m_ld_kd (i := x) hC hw (by omega) dX1_worth_235 ?_
                refine lv_bipush (v := nI 6) hC.1 hC.2.1 dX1_worth_236 (by decide) ?_
                refine xn_icmp_ne (tgt := 275) hC (by omega) (by omega) dX1_worth_238 (by decide) (fun k6 => ?_) (fun k6 => ?_)
                · have h8 : kd x = 8 := by omega
                  rw [h8] at hg
                  obtain ⟨pq, hpq⟩ := hM.wk hs6 h8 ha
                  obtain ⟨pq1, pq2⟩ := sg_wk_le _ _ hpq
                  have hg : (match sg_wk (sg_tb hs vl) (sg_sa (kd, da, db) x) (sg_sb (kd, da, db) x) k with | none => none | some pq => sg_2 sg_min ((sg_tb hs vl) (sg_sa (kd, da, db) x) pq.1) ((sg_tb hs vl) (sg_sb (kd, da, db) x) pq.2)) = some v := hg
                  rw [hpq] at hg
                  have hg : sg_2 sg_min ((sg_tb hs vl) (sg_sa (kd, da, db) x) pq.1) ((sg_tb hs vl) (sg_sb (kd, da, db) x) pq.2) = some v := hg
                  obtain ⟨w1, w2, t1, t2, e⟩ := sg_2_some hg
                  obtain ⟨-, -, g1⟩ := sg_tb_some t1
                  obtain ⟨-, -, g2⟩ := sg_tb_some t2
                  refine lv_aload_n hC.1 hC.2.1 dX1_worth_275 rfl (lv_at hl 0 rfl) ?_
                  refine lv_iload_n hC.1 hC.2.1 dX1_worth_276 rfl (lv_at hl 1 rfl) ?_
                  refine lv_iload_n hC.1 hC.2.1 dX1_worth_277 rfl (lv_at hl 2 rfl) ?_
                  refine cx_callv (ci := 1) (rest := []) (m_walk l (x := x) (k := k) hD hs6 h8 hk20 hpq) hC hml hl.1 hw rfl (cwV 2 hC.2.2.2 (lw_V q260 q262 qs25 q30 q263) rfl rfl rfl (by decide +kernel) ⟨Nat.le_of_ble_eq_true rfl, Nat.le_of_ble_eq_true rfl⟩) rfl rfl rfl rfl (Nat.le_of_ble_eq_true rfl) dX1_worth_278 ⟨Nat.zero_le _, Nat.zero_le _⟩ (fun u' H locs hp hw => ?_)
                  have hp := hp
                  subst hp
                  refine lv_aload_n hC.1 hC.2.1 dX1_worth_281 rfl (lv_at hl 0 rfl) ?_
                  refine lv_aload_n hC.1 hC.2.1 dX1_worth_282 rfl (lv_at hl 0 rfl) ?_
                  refine m_g_a hC hw dX1_worth_283 ?_
                  refine lv_iload_n hC.1 hC.2.1 dX1_worth_286 rfl (lv_at hl 1 rfl) ?_
                  refine m_ld_da (i := x) hC hw (by omega) dX1_worth_287 ?_
                  refine lv_aload_n hC.1 hC.2.1 dX1_worth_288 rfl (lv_at hl 0 rfl) ?_
                  refine m_g_placeA hC hw dX1_worth_289 ?_
                  have ea : da x = nI (sg_sa (kd, da, db) x) := (hD.a hs6 (by rw [hkd]; unfold sg_usA; omega)).2
                  have ea6 : sg_sa (kd, da, db) x < 6 := (hD.a hs6 (by rw [hkd]; unfold sg_usA; omega)).1
                  rw [ea]
                  refine cx_calli (ci := 1) (rest := []) (m_at l (x := sg_sa (kd, da, db) x) (k := pq.1) (by omega) (by omega)) hC hml hl.1 hw rfl (cwV 2 hC.2.2.2 (lw_V q264 q266 qs26 q30 q267) rfl rfl rfl (by decide +kernel) ⟨Nat.le_of_ble_eq_true rfl, Nat.le_of_ble_eq_true rfl⟩) rfl rfl rfl rfl (Nat.le_of_ble_eq_true rfl) dX1_worth_292 ⟨Nat.zero_le _, Nat.zero_le _⟩ (fun r u' H locs hp hw => ?_)
                  obtain ⟨rfl, rfl⟩ := hp
                  refine lv_istore_n (lv' := [(3, .int (vl (21 * (sg_sa (kd, da, db) x) + pq.1))), (0, .ref (ad 0)), (1, .int (nI x)), (2, .int (nI k))]) hC.1 hC.2.1 dX1_worth_295 rfl hl (by decide) rfl (fun ls hl => ?_)
                  refine lv_aload_n hC.1 hC.2.1 dX1_worth_296 rfl (lv_at hl 1 rfl) ?_
                  refine lv_aload_n hC.1 hC.2.1 dX1_worth_297 rfl (lv_at hl 1 rfl) ?_
                  refine m_g_b hC hw dX1_worth_298 ?_
                  refine lv_iload_n hC.1 hC.2.1 dX1_worth_301 rfl (lv_at hl 2 rfl) ?_
                  refine m_ld_db (i := x) hC hw (by omega) dX1_worth_302 ?_
                  refine lv_aload_n hC.1 hC.2.1 dX1_worth_303 rfl (lv_at hl 1 rfl) ?_
                  refine m_g_placeB hC hw dX1_worth_304 ?_
                  have eb : db x = nI (sg_sb (kd, da, db) x) := (hD.b hs6 (by rw [hkd]; unfold sg_usB; omega)).2
                  have eb6 : sg_sb (kd, da, db) x < 6 := (hD.b hs6 (by rw [hkd]; unfold sg_usB; omega)).1
                  rw [eb]
                  refine cx_calli (ci := 1) (rest := []) (m_at l (x := sg_sb (kd, da, db) x) (k := pq.2) (by omega) (by omega)) hC hml hl.1 hw rfl (cwV 2 hC.2.2.2 (lw_V q264 q266 qs26 q30 q267) rfl rfl rfl (by decide +kernel) ⟨Nat.le_of_ble_eq_true rfl, Nat.le_of_ble_eq_true rfl⟩) rfl rfl rfl rfl (Nat.le_of_ble_eq_true rfl) dX1_worth_307 ⟨Nat.zero_le _, Nat.zero_le _⟩ (fun r u' H locs hp hw => ?_)
                  obtain ⟨rfl, rfl⟩ := hp
                  refine lv_istore (lv' := [(4, .int (vl (21 * (sg_sb (kd, da, db) x) + pq.2))), (3, .int (vl (21 * (sg_sa (kd, da, db) x) + pq.1))), (0, .ref (ad 0)), (1, .int (nI x)), (2, .int (nI k))]) hC.1 hC.2.1 dX1_worth_310 hl (by decide) rfl (fun ls hl => ?_)
                  refine lv_iload_n hC.1 hC.2.1 dX1_worth_312 rfl (lv_at hl 1 rfl) ?_
                  refine lv_iload hC.1 hC.2.1 dX1_worth_313 (lv_at hl 0 rfl) ?_
                  refine lv_icmp_ge (tgt := 322) hC.1 hC.2.1 dX1_worth_315 (by decide) (fun c2 => ?_) (fun c2 => ?_)
                  · refine lv_iload hC.1 hC.2.1 dX1_worth_322 (lv_at hl 0 rfl) ?_
                    exact cx_iret hC hr hk hw ⟨_, _, rfl, by rw [e, ← g1, ← g2]; unfold sg_min; rw [if_neg (fun q => absurd c2 (Int32.not_le.mpr q))]⟩ dX1_worth_324
                  · refine lv_iload_n hC.1 hC.2.1 dX1_worth_318 rfl (lv_at hl 1 rfl) ?_
                    refine lv_goto (tgt := 324) hC.1 hC.2.1 dX1_worth_319 (by decide) ?_
                    exact cx_iret hC hr hk hw ⟨_, _, rfl, by rw [e, ← g1, ← g2]; unfold sg_min; rw [if_pos (Int32.not_le.mp c2)]⟩ dX1_worth_324
                · rw [k6] at hg
                  have hg : sg_sum (sg_tb hs vl) (sg_sa (kd, da, db) x) (k + 1) = some v := hg
                  have ea : da x = nI (sg_sa (kd, da, db) x) := (hD.a hs6 (by rw [hkd]; unfold sg_usA; omega)).2
                  have ea6 : sg_sa (kd, da, db) x < 6 := (hD.a hs6 (by rw [hkd]; unfold sg_usA; omega)).1
                  refine lv_iconst (v := nI 0) hC.1 hC.2.1 dX1_worth_241 (by decide) ?_
                  refine lv_istore_n (lv' := [(3, .int (nI 0)), (0, .ref (ad 0)), (1, .int (nI x)), (2, .int (nI k))]) hC.1 hC.2.1 dX1_worth_242 rfl hl (by decide) rfl (fun ls hl => ?_)
                  refine lv_iconst (v := nI 0) hC.1 hC.2.1 dX1_worth_243 (by decide) ?_
                  refine lv_istore (lv' := [(4, .int (nI 0)), (3, .int (nI 0)), (0, .ref (ad 0)), (1, .int (nI x)), (2, .int (nI k))]) hC.1 hC.2.1 dX1_worth_244 hl (by decide) rfl (fun ls hl => ?_)
                  have loop : ∀ (n : Nat) (i : Nat) (sm : Int32), i ≤ k + 1 → k + 2 ≤ i + n → sg_sum (sg_tb hs vl) (sg_sa (kd, da, db) x) i = some sm → ∀ (H : Heap) (locs : List Loc) (ls : Array Slot), cx_W Dg (mT ct) A s s.heap H locs (mW ad ct (kd, da, db, hs, vl, pa, pb)) → lv_has ls 5 [(4, .int (nI i)), (3, .int sm), (2, .int (nI k)), (1, .int (nI x)), (0, .ref (ad 0))] → W p l e ({ frames := 2, cells := 0, slots := 0, locals := 47 }) s m ([.ref (ad 0), .int (nI x), .int (nI k)] : List Value).toArray below meth c H locs 0 0 (MQ below (va_Qi (fun r' u' => ∃ pa' pb', u' = (kd, da, db, hs, vl, pa', pb') ∧ r' = v) (cx_B Dg (mT ct) (mW ad ct) A) A) ([.ref (ad 0), .int (nI x), .int (nI k)] : List Value).toArray s 0 0 A) (F0 m 246 ls []) := by
                    intro n
                    induction n with
                    | zero =>
                      intro i sm hi hn hsm
                      exact absurd hn (by omega)
                    | succ n ih =>
                      intro i sm hi hn hsm H locs ls hw hl
                      refine lv_iload hC.1 hC.2.1 dX1_worth_246 (lv_at hl 0 rfl) ?_
                      refine lv_iload_n hC.1 hC.2.1 dX1_worth_248 rfl (lv_at hl 2 rfl) ?_
                      refine xn_icmp_gt (tgt := 273) hC (by omega) (by omega) dX1_worth_249 (by decide) (fun c1 => ?_) (fun c1 => ?_)
                      · refine lv_iload_n hC.1 hC.2.1 dX1_worth_273 rfl (lv_at hl 1 rfl) ?_
                        have e := hsm
                        rw [show i = k + 1 by omega, hg] at e
                        exact cx_iret hC hr hk hw ⟨_, _, rfl, (Option.some.inj e).symm⟩ dX1_worth_274
                      · obtain ⟨w2, t2, hsn⟩ := sg_sum_el hg (by omega) hsm
                        obtain ⟨-, -, g2⟩ := sg_tb_some t2
                        refine lv_iload_n hC.1 hC.2.1 dX1_worth_252 rfl (lv_at hl 1 rfl) ?_
                        refine lv_aload_n hC.1 hC.2.1 dX1_worth_253 rfl (lv_at hl 4 rfl) ?_
                        refine lv_aload_n hC.1 hC.2.1 dX1_worth_254 rfl (lv_at hl 4 rfl) ?_
                        refine m_g_a hC hw dX1_worth_255 ?_
                        refine lv_iload_n hC.1 hC.2.1 dX1_worth_258 rfl (lv_at hl 3 rfl) ?_
                        refine m_ld_da (i := x) hC hw (by omega) dX1_worth_259 ?_
                        refine lv_iload hC.1 hC.2.1 dX1_worth_260 (lv_at hl 0 rfl) ?_
                        have ea : da x = nI (sg_sa (kd, da, db) x) := (hD.a hs6 (by rw [hkd]; unfold sg_usA; omega)).2
                        have ea6 : sg_sa (kd, da, db) x < 6 := (hD.a hs6 (by rw [hkd]; unfold sg_usA; omega)).1
                        rw [ea]
                        refine cx_calli (ci := 1) (rest := [.int sm]) (m_at l (x := sg_sa (kd, da, db) x) (k := i) (by omega) (by omega)) hC hml hl.1 hw rfl (cwV 2 hC.2.2.2 (lw_V q264 q266 qs26 q30 q267) rfl rfl rfl (by decide +kernel) ⟨Nat.le_of_ble_eq_true rfl, Nat.le_of_ble_eq_true rfl⟩) rfl rfl rfl rfl (Nat.le_of_ble_eq_true rfl) dX1_worth_262 ⟨Nat.zero_le _, Nat.zero_le _⟩ (fun r u' H locs hp hw => ?_)
                        obtain ⟨rfl, rfl⟩ := hp
                        refine lv_iadd hC.1 hC.2.1 dX1_worth_265 ?_
                        refine lv_istore_n (lv' := [(3, .int (sm + (vl (21 * (sg_sa (kd, da, db) x) + i)))), (4, .int (nI i)), (2, .int (nI k)), (1, .int (nI x)), (0, .ref (ad 0))]) hC.1 hC.2.1 dX1_worth_266 rfl hl (by decide) rfl (fun ls hl => ?_)
                        refine lv_iinc (v := nI (i + 1)) (lv' := [(4, .int (nI (i + 1))), (3, .int (sm + (vl (21 * (sg_sa (kd, da, db) x) + i)))), (2, .int (nI k)), (1, .int (nI x)), (0, .ref (ad 0))]) hC.1 hC.2.1 dX1_worth_267 hl (k := 1) rfl (xn_inc _) (by decide) rfl (fun ls hl => ?_)
                        refine lv_goto (tgt := 246) hC.1 hC.2.1 dX1_worth_270 (by decide) ?_
                        exact ih (i + 1) _ (by omega) (by omega) (by rw [hsn, g2]) H locs ls hw (lv_sub hl [0, 1, 2, 3, 4] rfl)
                  exact loop (k + 2) 0 (nI 0) (by omega) (by omega) rfl _ _ _ hw (lv_sub hl [0, 1, 4, 3, 2] rfl)
              · rw [k7] at hg
                have hg : (if k % 2 = 0 then (sg_tb hs vl) (sg_sa (kd, da, db) x) (k / 2) else (sg_tb hs vl) (sg_sb (kd, da, db) x) (k / 2)) = some v := hg
                refine lv_iload_n hC.1 hC.2.1 dX1_worth_194 rfl (lv_at hl 2 rfl) ?_
                refine lv_iconst (v := nI 2) hC.1 hC.2.1 dX1_worth_195 (by decide) ?_
                refine xn_irem (r := k % 2) hC (by omega) (by omega) (by omega) rfl dX1_worth_196 ?_
                refine xn_if_ne (tgt := 216) hC (by omega) dX1_worth_197 (by decide) (fun ev => ?_) (fun ev => ?_)
                · rw [if_neg ev] at hg
                  obtain ⟨g1, -, g2⟩ := sg_tb_some hg
                  refine lv_aload_n hC.1 hC.2.1 dX1_worth_216 rfl (lv_at hl 0 rfl) ?_
                  refine lv_aload_n hC.1 hC.2.1 dX1_worth_217 rfl (lv_at hl 0 rfl) ?_
                  refine m_g_b hC hw dX1_worth_218 ?_
                  refine lv_iload_n hC.1 hC.2.1 dX1_worth_221 rfl (lv_at hl 1 rfl) ?_
                  refine m_ld_db (i := x) hC hw (by omega) dX1_worth_222 ?_
                  refine lv_iload_n hC.1 hC.2.1 dX1_worth_223 rfl (lv_at hl 2 rfl) ?_
                  refine lv_iconst (v := nI 2) hC.1 hC.2.1 dX1_worth_224 (by decide) ?_
                  refine xn_idiv (r := k / 2) hC (by omega) (by omega) (by omega) rfl dX1_worth_225 ?_
                  have eb : db x = nI (sg_sb (kd, da, db) x) := (hD.b hs6 (by rw [hkd]; unfold sg_usB; omega)).2
                  have eb6 : sg_sb (kd, da, db) x < 6 := (hD.b hs6 (by rw [hkd]; unfold sg_usB; omega)).1
                  rw [eb]
                  refine cx_calli (ci := 1) (rest := []) (m_at l (x := sg_sb (kd, da, db) x) (k := k / 2) (by omega) (by omega)) hC hml hl.1 hw rfl (cwV 2 hC.2.2.2 (lw_V q264 q266 qs26 q30 q267) rfl rfl rfl (by decide +kernel) ⟨Nat.le_of_ble_eq_true rfl, Nat.le_of_ble_eq_true rfl⟩) rfl rfl rfl rfl (Nat.le_of_ble_eq_true rfl) dX1_worth_226 ⟨Nat.zero_le _, Nat.zero_le _⟩ (fun r u' H locs hp hw => ?_)
                  obtain ⟨rfl, rfl⟩ := hp
                  exact cx_iret hC hr hk hw ⟨_, _, rfl, g2⟩ dX1_worth_229
                · rw [if_pos ev] at hg
                  obtain ⟨g1, -, g2⟩ := sg_tb_some hg
                  refine lv_aload_n hC.1 hC.2.1 dX1_worth_200 rfl (lv_at hl 0 rfl) ?_
                  refine lv_aload_n hC.1 hC.2.1 dX1_worth_201 rfl (lv_at hl 0 rfl) ?_
                  refine m_g_a hC hw dX1_worth_202 ?_
                  refine lv_iload_n hC.1 hC.2.1 dX1_worth_205 rfl (lv_at hl 1 rfl) ?_
                  refine m_ld_da (i := x) hC hw (by omega) dX1_worth_206 ?_
                  refine lv_iload_n hC.1 hC.2.1 dX1_worth_207 rfl (lv_at hl 2 rfl) ?_
                  refine lv_iconst (v := nI 2) hC.1 hC.2.1 dX1_worth_208 (by decide) ?_
                  refine xn_idiv (r := k / 2) hC (by omega) (by omega) (by omega) rfl dX1_worth_209 ?_
                  have ea : da x = nI (sg_sa (kd, da, db) x) := (hD.a hs6 (by rw [hkd]; unfold sg_usA; omega)).2
                  have ea6 : sg_sa (kd, da, db) x < 6 := (hD.a hs6 (by rw [hkd]; unfold sg_usA; omega)).1
                  rw [ea]
                  refine cx_calli (ci := 1) (rest := []) (m_at l (x := sg_sa (kd, da, db) x) (k := k / 2) (by omega) (by omega)) hC hml hl.1 hw rfl (cwV 2 hC.2.2.2 (lw_V q264 q266 qs26 q30 q267) rfl rfl rfl (by decide +kernel) ⟨Nat.le_of_ble_eq_true rfl, Nat.le_of_ble_eq_true rfl⟩) rfl rfl rfl rfl (Nat.le_of_ble_eq_true rfl) dX1_worth_210 ⟨Nat.zero_le _, Nat.zero_le _⟩ (fun r u' H locs hp hw => ?_)
                  obtain ⟨rfl, rfl⟩ := hp
                  refine lv_goto (tgt := 229) hC.1 hC.2.1 dX1_worth_213 (by decide) ?_
                  exact cx_iret hC hr hk hw ⟨_, _, rfl, g2⟩ dX1_worth_229
            · rw [k5] at hg
              obtain ⟨w1, w2, t1, t2, e⟩ := sg_2_some hg
              obtain ⟨-, -, g2⟩ := sg_tb_some t2
              have g1 : da x = w1 := Option.some.inj t1
              refine lv_aload_n hC.1 hC.2.1 dX1_worth_164 rfl (lv_at hl 0 rfl) ?_
              refine m_g_a hC hw dX1_worth_165 ?_
              refine lv_iload_n hC.1 hC.2.1 dX1_worth_168 rfl (lv_at hl 1 rfl) ?_
              refine m_ld_da (i := x) hC hw (by omega) dX1_worth_169 ?_
              refine lv_aload_n hC.1 hC.2.1 dX1_worth_170 rfl (lv_at hl 0 rfl) ?_
              refine lv_aload_n hC.1 hC.2.1 dX1_worth_171 rfl (lv_at hl 0 rfl) ?_
              refine m_g_b hC hw dX1_worth_172 ?_
              refine lv_iload_n hC.1 hC.2.1 dX1_worth_175 rfl (lv_at hl 1 rfl) ?_
              refine m_ld_db (i := x) hC hw (by omega) dX1_worth_176 ?_
              refine lv_iload_n hC.1 hC.2.1 dX1_worth_177 rfl (lv_at hl 2 rfl) ?_
              have eb : db x = nI (sg_sb (kd, da, db) x) := (hD.b hs6 (by rw [hkd]; unfold sg_usB; omega)).2
              have eb6 : sg_sb (kd, da, db) x < 6 := (hD.b hs6 (by rw [hkd]; unfold sg_usB; omega)).1
              rw [eb]
              refine cx_calli (ci := 1) (rest := [.int (da x)]) (m_at l (x := sg_sb (kd, da, db) x) (k := k) (by omega) (by omega)) hC hml hl.1 hw rfl (cwV 2 hC.2.2.2 (lw_V q264 q266 qs26 q30 q267) rfl rfl rfl (by decide +kernel) ⟨Nat.le_of_ble_eq_true rfl, Nat.le_of_ble_eq_true rfl⟩) rfl rfl rfl rfl (Nat.le_of_ble_eq_true rfl) dX1_worth_178 ⟨Nat.zero_le _, Nat.zero_le _⟩ (fun r u' H locs hp hw => ?_)
              obtain ⟨rfl, rfl⟩ := hp
              refine lv_imul hC.1 hC.2.1 dX1_worth_181 ?_
              exact cx_iret hC hr hk hw ⟨_, _, rfl, by rw [e, g1, g2]⟩ dX1_worth_182
          · rw [k4] at hg
            obtain ⟨w1, w2, t1, t2, e⟩ := sg_2_some hg
            obtain ⟨-, -, g1⟩ := sg_tb_some t1
            obtain ⟨-, -, g2⟩ := sg_tb_some t2
            refine lv_aload_n hC.1 hC.2.1 dX1_worth_130 rfl (lv_at hl 0 rfl) ?_
            refine lv_aload_n hC.1 hC.2.1 dX1_worth_131 rfl (lv_at hl 0 rfl) ?_
            refine m_g_a hC hw dX1_worth_132 ?_
            refine lv_iload_n hC.1 hC.2.1 dX1_worth_135 rfl (lv_at hl 1 rfl) ?_
            refine m_ld_da (i := x) hC hw (by omega) dX1_worth_136 ?_
            refine lv_iload_n hC.1 hC.2.1 dX1_worth_137 rfl (lv_at hl 2 rfl) ?_
            have ea : da x = nI (sg_sa (kd, da, db) x) := (hD.a hs6 (by rw [hkd]; unfold sg_usA; omega)).2
            have ea6 : sg_sa (kd, da, db) x < 6 := (hD.a hs6 (by rw [hkd]; unfold sg_usA; omega)).1
            rw [ea]
            refine cx_calli (ci := 1) (rest := []) (m_at l (x := sg_sa (kd, da, db) x) (k := k) (by omega) (by omega)) hC hml hl.1 hw rfl (cwV 2 hC.2.2.2 (lw_V q264 q266 qs26 q30 q267) rfl rfl rfl (by decide +kernel) ⟨Nat.le_of_ble_eq_true rfl, Nat.le_of_ble_eq_true rfl⟩) rfl rfl rfl rfl (Nat.le_of_ble_eq_true rfl) dX1_worth_138 ⟨Nat.zero_le _, Nat.zero_le _⟩ (fun r u' H locs hp hw => ?_)
            obtain ⟨rfl, rfl⟩ := hp
            refine lv_aload_n hC.1 hC.2.1 dX1_worth_141 rfl (lv_at hl 0 rfl) ?_
            refine lv_aload_n hC.1 hC.2.1 dX1_worth_142 rfl (lv_at hl 0 rfl) ?_
            refine m_g_b hC hw dX1_worth_143 ?_
            refine lv_iload_n hC.1 hC.2.1 dX1_worth_146 rfl (lv_at hl 1 rfl) ?_
            refine m_ld_db (i := x) hC hw (by omega) dX1_worth_147 ?_
            refine lv_iload_n hC.1 hC.2.1 dX1_worth_148 rfl (lv_at hl 2 rfl) ?_
            have eb : db x = nI (sg_sb (kd, da, db) x) := (hD.b hs6 (by rw [hkd]; unfold sg_usB; omega)).2
            have eb6 : sg_sb (kd, da, db) x < 6 := (hD.b hs6 (by rw [hkd]; unfold sg_usB; omega)).1
            rw [eb]
            refine cx_calli (ci := 1) (rest := [.int (vl (21 * (sg_sa (kd, da, db) x) + k))]) (m_at l (x := sg_sb (kd, da, db) x) (k := k) (by omega) (by omega)) hC hml hl.1 hw rfl (cwV 2 hC.2.2.2 (lw_V q264 q266 qs26 q30 q267) rfl rfl rfl (by decide +kernel) ⟨Nat.le_of_ble_eq_true rfl, Nat.le_of_ble_eq_true rfl⟩) rfl rfl rfl rfl (Nat.le_of_ble_eq_true rfl) dX1_worth_149 ⟨Nat.zero_le _, Nat.zero_le _⟩ (fun r u' H locs hp hw => ?_)
            obtain ⟨rfl, rfl⟩ := hp
            refine lv_imul hC.1 hC.2.1 dX1_worth_152 ?_
            exact cx_iret hC hr hk hw ⟨_, _, rfl, by rw [e, g1, g2]⟩ dX1_worth_153
        · rw [k3] at hg
          obtain ⟨w1, w2, t1, t2, e⟩ := sg_2_some hg
          obtain ⟨-, -, g1⟩ := sg_tb_some t1
          obtain ⟨-, -, g2⟩ := sg_tb_some t2
          refine lv_aload_n hC.1 hC.2.1 dX1_worth_96 rfl (lv_at hl 0 rfl) ?_
          refine lv_aload_n hC.1 hC.2.1 dX1_worth_97 rfl (lv_at hl 0 rfl) ?_
          refine m_g_a hC hw dX1_worth_98 ?_
          refine lv_iload_n hC.1 hC.2.1 dX1_worth_101 rfl (lv_at hl 1 rfl) ?_
          refine m_ld_da (i := x) hC hw (by omega) dX1_worth_102 ?_
          refine lv_iload_n hC.1 hC.2.1 dX1_worth_103 rfl (lv_at hl 2 rfl) ?_
          have ea : da x = nI (sg_sa (kd, da, db) x) := (hD.a hs6 (by rw [hkd]; unfold sg_usA; omega)).2
          have ea6 : sg_sa (kd, da, db) x < 6 := (hD.a hs6 (by rw [hkd]; unfold sg_usA; omega)).1
          rw [ea]
          refine cx_calli (ci := 1) (rest := []) (m_at l (x := sg_sa (kd, da, db) x) (k := k) (by omega) (by omega)) hC hml hl.1 hw rfl (cwV 2 hC.2.2.2 (lw_V q264 q266 qs26 q30 q267) rfl rfl rfl (by decide +kernel) ⟨Nat.le_of_ble_eq_true rfl, Nat.le_of_ble_eq_true rfl⟩) rfl rfl rfl rfl (Nat.le_of_ble_eq_true rfl) dX1_worth_104 ⟨Nat.zero_le _, Nat.zero_le _⟩ (fun r u' H locs hp hw => ?_)
          obtain ⟨rfl, rfl⟩ := hp
          refine lv_aload_n hC.1 hC.2.1 dX1_worth_107 rfl (lv_at hl 0 rfl) ?_
          refine lv_aload_n hC.1 hC.2.1 dX1_worth_108 rfl (lv_at hl 0 rfl) ?_
          refine m_g_b hC hw dX1_worth_109 ?_
          refine lv_iload_n hC.1 hC.2.1 dX1_worth_112 rfl (lv_at hl 1 rfl) ?_
          refine m_ld_db (i := x) hC hw (by omega) dX1_worth_113 ?_
          refine lv_iload_n hC.1 hC.2.1 dX1_worth_114 rfl (lv_at hl 2 rfl) ?_
          have eb : db x = nI (sg_sb (kd, da, db) x) := (hD.b hs6 (by rw [hkd]; unfold sg_usB; omega)).2
          have eb6 : sg_sb (kd, da, db) x < 6 := (hD.b hs6 (by rw [hkd]; unfold sg_usB; omega)).1
          rw [eb]
          refine cx_calli (ci := 1) (rest := [.int (vl (21 * (sg_sa (kd, da, db) x) + k))]) (m_at l (x := sg_sb (kd, da, db) x) (k := k) (by omega) (by omega)) hC hml hl.1 hw rfl (cwV 2 hC.2.2.2 (lw_V q264 q266 qs26 q30 q267) rfl rfl rfl (by decide +kernel) ⟨Nat.le_of_ble_eq_true rfl, Nat.le_of_ble_eq_true rfl⟩) rfl rfl rfl rfl (Nat.le_of_ble_eq_true rfl) dX1_worth_115 ⟨Nat.zero_le _, Nat.zero_le _⟩ (fun r u' H locs hp hw => ?_)
          obtain ⟨rfl, rfl⟩ := hp
          refine lv_iadd hC.1 hC.2.1 dX1_worth_118 ?_
          exact cx_iret hC hr hk hw ⟨_, _, rfl, by rw [e, g1, g2]⟩ dX1_worth_119
      · rw [k2] at hg
        have hg : (sg_tb hs vl) (sg_sa (kd, da, db) x) (k + 1) = some v := hg
        obtain ⟨g1, -, g2⟩ := sg_tb_some hg
        refine lv_aload_n hC.1 hC.2.1 dX1_worth_72 rfl (lv_at hl 0 rfl) ?_
        refine lv_aload_n hC.1 hC.2.1 dX1_worth_73 rfl (lv_at hl 0 rfl) ?_
        refine m_g_a hC hw dX1_worth_74 ?_
        refine lv_iload_n hC.1 hC.2.1 dX1_worth_77 rfl (lv_at hl 1 rfl) ?_
        refine m_ld_da (i := x) hC hw (by omega) dX1_worth_78 ?_
        refine lv_iload_n hC.1 hC.2.1 dX1_worth_79 rfl (lv_at hl 2 rfl) ?_
        refine lv_iconst (v := nI 1) hC.1 hC.2.1 dX1_worth_80 (by decide) ?_
        refine xn_iadd (r := k + 1) hC rfl dX1_worth_81 ?_
        have ea : da x = nI (sg_sa (kd, da, db) x) := (hD.a hs6 (by rw [hkd]; unfold sg_usA; omega)).2
        have ea6 : sg_sa (kd, da, db) x < 6 := (hD.a hs6 (by rw [hkd]; unfold sg_usA; omega)).1
        rw [ea]
        refine cx_calli (ci := 1) (rest := []) (m_at l (x := sg_sa (kd, da, db) x) (k := k + 1) (by omega) (by omega)) hC hml hl.1 hw rfl (cwV 2 hC.2.2.2 (lw_V q264 q266 qs26 q30 q267) rfl rfl rfl (by decide +kernel) ⟨Nat.le_of_ble_eq_true rfl, Nat.le_of_ble_eq_true rfl⟩) rfl rfl rfl rfl (Nat.le_of_ble_eq_true rfl) dX1_worth_82 ⟨Nat.zero_le _, Nat.zero_le _⟩ (fun r u' H locs hp hw => ?_)
        obtain ⟨rfl, rfl⟩ := hp
        exact cx_iret hC hr hk hw ⟨_, _, rfl, g2⟩ dX1_worth_85
    · rw [k1] at hg
      have hg : (if k = 0 then some (da x) else (sg_tb hs vl) (sg_sb (kd, da, db) x) (k - 1)) = some v := hg
      refine lv_iload_n hC.1 hC.2.1 dX1_worth_35 rfl (lv_at hl 2 rfl) ?_
      refine xn_if_ne (tgt := 48) hC (by omega) dX1_worth_36 (by decide) (fun z0 => ?_) (fun z0 => ?_)
      · rw [if_neg z0] at hg
        obtain ⟨g1, -, g2⟩ := sg_tb_some hg
        refine lv_aload_n hC.1 hC.2.1 dX1_worth_48 rfl (lv_at hl 0 rfl) ?_
        refine lv_aload_n hC.1 hC.2.1 dX1_worth_49 rfl (lv_at hl 0 rfl) ?_
        refine m_g_b hC hw dX1_worth_50 ?_
        refine lv_iload_n hC.1 hC.2.1 dX1_worth_53 rfl (lv_at hl 1 rfl) ?_
        refine m_ld_db (i := x) hC hw (by omega) dX1_worth_54 ?_
        refine lv_iload_n hC.1 hC.2.1 dX1_worth_55 rfl (lv_at hl 2 rfl) ?_
        refine lv_iconst (v := nI 1) hC.1 hC.2.1 dX1_worth_56 (by decide) ?_
        refine xn_isub (r := k - 1) hC (by omega) dX1_worth_57 ?_
        have eb : db x = nI (sg_sb (kd, da, db) x) := (hD.b hs6 (by rw [hkd]; unfold sg_usB; omega)).2
        have eb6 : sg_sb (kd, da, db) x < 6 := (hD.b hs6 (by rw [hkd]; unfold sg_usB; omega)).1
        rw [eb]
        refine cx_calli (ci := 1) (rest := []) (m_at l (x := sg_sb (kd, da, db) x) (k := k - 1) (by omega) (by omega)) hC hml hl.1 hw rfl (cwV 2 hC.2.2.2 (lw_V q264 q266 qs26 q30 q267) rfl rfl rfl (by decide +kernel) ⟨Nat.le_of_ble_eq_true rfl, Nat.le_of_ble_eq_true rfl⟩) rfl rfl rfl rfl (Nat.le_of_ble_eq_true rfl) dX1_worth_58 ⟨Nat.zero_le _, Nat.zero_le _⟩ (fun r u' H locs hp hw => ?_)
        obtain ⟨rfl, rfl⟩ := hp
        exact cx_iret hC hr hk hw ⟨_, _, rfl, g2⟩ dX1_worth_61
      · rw [if_pos z0] at hg
        refine lv_aload_n hC.1 hC.2.1 dX1_worth_39 rfl (lv_at hl 0 rfl) ?_
        refine m_g_a hC hw dX1_worth_40 ?_
        refine lv_iload_n hC.1 hC.2.1 dX1_worth_43 rfl (lv_at hl 1 rfl) ?_
        refine m_ld_da (i := x) hC hw (by omega) dX1_worth_44 ?_
        refine lv_goto (tgt := 61) hC.1 hC.2.1 dX1_worth_45 (by decide) ?_
        exact cx_iret hC hr hk hw ⟨_, _, rfl, Option.some.inj hg⟩ dX1_worth_61
  · rw [k0] at hg
    refine lv_aload_n hC.1 hC.2.1 dX1_worth_9 rfl (lv_at hl 0 rfl) ?_
    refine m_g_a hC hw dX1_worth_10 ?_
    refine lv_iload_n hC.1 hC.2.1 dX1_worth_13 rfl (lv_at hl 1 rfl) ?_
    refine m_ld_da (i := x) hC hw (by omega) dX1_worth_14 ?_
    refine lv_iload_n hC.1 hC.2.1 dX1_worth_15 rfl (lv_at hl 2 rfl) ?_
    refine lv_aload_n hC.1 hC.2.1 dX1_worth_16 rfl (lv_at hl 0 rfl) ?_
    refine m_g_b hC hw dX1_worth_17 ?_
    refine lv_iload_n hC.1 hC.2.1 dX1_worth_20 rfl (lv_at hl 1 rfl) ?_
    refine m_ld_db (i := x) hC hw (by omega) dX1_worth_21 ?_
    refine lv_imul hC.1 hC.2.1 dX1_worth_22 ?_
    refine lv_iadd hC.1 hC.2.1 dX1_worth_23 ?_
    exact cx_iret hC hr hk hw ⟨_, _, rfl, Option.some.inj hg⟩ dX1_worth_24
end
section

/-! SelectorGcModel: sweep, fill -/
/-- in a sweep, before the place k of s: nothing is new (g = 0), or something (g = 1) -/
def sg_Sw (D : sg_D) (hs0 : Nat → Nat) (vl0 : Nat → Int32) (hs : Nat → Nat) (vl : Nat → Int32) (g k s : Nat) : Prop :=
  (∀ j, j < 126 → hs j ≤ 1) ∧ sg_Mi D (sg_tb hs vl) ∧ ((g = 0 ∧ hs = hs0 ∧ vl = vl0 ∧ ∀ k' s', s' < 6 → (k' < k ∨ (k' = k ∧ s' < s)) → hs0 (21 * s' + k') ≠ 0 ∨ ¬ sg_Nd D (sg_tb hs0 vl0) s' k') ∨ (g = 1 ∧ sg_ct hs0 126 + 1 ≤ sg_ct hs 126))
theorem sg_Sw.skip {D : sg_D} {hs0 : Nat → Nat} {vl0 : Nat → Int32} {hs : Nat → Nat} {vl : Nat → Int32} {g k s : Nat} (h : sg_Sw D hs0 vl0 hs vl g k s) (hn : hs (21 * s + k) ≠ 0 ∨ ¬ sg_Nd D (sg_tb hs vl) s k) : sg_Sw D hs0 vl0 hs vl g k (s + 1) := by
  obtain ⟨h1, h2, h3⟩ := h
  refine ⟨h1, h2, ?_⟩
  rcases h3 with ⟨a1, rfl, rfl, a4⟩ | h3
  · refine Or.inl ⟨a1, rfl, rfl, fun k' s' hs' q => ?_⟩
    by_cases e : k' = k ∧ s' = s
    · rw [e.1, e.2]
      exact hn
    · exact a4 k' s' hs' (by omega)
  · exact Or.inr h3
theorem sg_Sw.add {D : sg_D} (hD : sg_Ok D) {hs0 : Nat → Nat} {vl0 : Nat → Int32} {hs : Nat → Nat} {vl : Nat → Int32} {g k s : Nat} {v : Int32} (h : sg_Sw D hs0 vl0 hs vl g k s) (hs6 : s < 6) (hk : k ≤ 20) (h0 : hs (21 * s + k) = 0) (hv : sg_F D (sg_tb hs vl) s k = some v) : sg_Sw D hs0 vl0 (va_up hs (21 * s + k) 1) (va_up vl (21 * s + k) v) 1 k (s + 1) := by
  obtain ⟨h1, h2, h3⟩ := h
  have hct := sg_ct_add h0 126 (by omega)
  refine ⟨fun j hj => ?_, h2.add hD hs6 hk h0 hv, Or.inr ⟨rfl, ?_⟩⟩
  · by_cases e : j = 21 * s + k
    · rw [e, sg_us]
      exact Nat.le_refl _
    · rw [sg_un e]
      exact h1 j hj
  · rcases h3 with ⟨-, rfl, -, -⟩ | ⟨-, h3⟩ <;> omega
theorem sg_Sw.row {D : sg_D} {hs0 : Nat → Nat} {vl0 : Nat → Int32} {hs : Nat → Nat} {vl : Nat → Int32} {g k s : Nat} (h : sg_Sw D hs0 vl0 hs vl g k s) (h6 : 6 ≤ s) : sg_Sw D hs0 vl0 hs vl g (k + 1) 0 := by
  obtain ⟨h1, h2, h3⟩ := h
  refine ⟨h1, h2, ?_⟩
  rcases h3 with ⟨a1, a2, a3, a4⟩ | h3
  · exact Or.inl ⟨a1, a2, a3, fun k' s' hs' q => a4 k' s' hs' (by omega)⟩
  · exact Or.inr h3
theorem sg_Sw.le1 {D : sg_D} {hs0 : Nat → Nat} {vl0 : Nat → Int32} {hs : Nat → Nat} {vl : Nat → Int32} {g k s : Nat} (h : sg_Sw D hs0 vl0 hs vl g k s) : g ≤ 1 := by
  rcases h.2.2 with ⟨a, -⟩ | ⟨a, -⟩ <;> omega
theorem sg_ct0 {hs : Nat → Nat} : ∀ n, (∀ j, j < n → hs j = 0) → sg_ct hs n = 0 := by
  intro n
  induction n with
  | zero => intro _; rfl
  | succ n ih =>
    intro h
    unfold sg_ct
    rw [ih (fun j hj => h j (by omega)), if_pos (h n (by omega))]
set_option maxHeartbeats 4000000 in
set_option maxRecDepth 100000 in
/-- one round of the rules -/
theorem m_sweep (l : Launch) {kd : Nat → Nat} {da : Nat → Int32} {db : Nat → Int32} {hs : Nat → Nat} {vl : Nat → Int32} {pa : Nat} {pb : Nat}  (hD : sg_Ok (kd, da, db)) (h01 : ∀ j, j < 126 → hs j ≤ 1) (hM : sg_Mi (kd, da, db) (sg_tb hs vl)) : cx_Mi l yX1_sweep cX1_sweep 4 (some .boolean) ({ frames := 3, cells := 0, slots := 0, locals := 71 }) mW mT [] (fun u => u = (kd, da, db, hs, vl, pa, pb)) (fun _ r' u' => ∃ hs' vl' pa' pb', u' = (kd, da, db, hs', vl', pa', pb') ∧ (∀ j, j < 126 → hs' j ≤ 1) ∧ sg_Mi (kd, da, db) (sg_tb hs' vl') ∧ ((r' = nI 0 ∧ sg_Cl (kd, da, db) hs' vl') ∨ (r' = nI 1 ∧ sg_ct hs 126 + 1 ≤ sg_ct hs' 126))) := by
  refine cx_Mi.of (by decide) (fun _ => Nat.le_of_ble_eq_true rfl) ?_
  intro p e s m below meth c Dg ad ct A u ls hu hC hml hr hk hw hl
  subst hu
  have hC : cx_C p m c cX1_sweep s _ RX1 := hC
  have hlk := hk
  have hl : lv_has ls 4 [(0, .ref (ad 0))] := hl
  have inner : ∀ k, k ≤ 20 → (∀ (g : Nat) (hs1 : Nat → Nat) (vl1 : Nat → Int32) (pa pb : Nat), sg_Sw (kd, da, db) hs vl hs1 vl1 g (k + 1) 0 → ∀ (H : Heap) (locs : List Loc) (ls : Array Slot), cx_W Dg (mT ct) A s s.heap H locs (mW ad ct (kd, da, db, hs1, vl1, pa, pb)) → lv_has ls 4 [(2, .int (nI (k + 1))), (1, .int (nI g)), (0, .ref (ad 0))] → W p l e ({ frames := 3, cells := 0, slots := 0, locals := 71 }) s m ([.ref (ad 0)] : List Value).toArray below meth c H locs 0 0 (MQ below (va_Qi (fun r' u' => ∃ hs' vl' pa' pb', u' = (kd, da, db, hs', vl', pa', pb') ∧ (∀ j, j < 126 → hs' j ≤ 1) ∧ sg_Mi (kd, da, db) (sg_tb hs' vl') ∧ ((r' = nI 0 ∧ sg_Cl (kd, da, db) hs' vl') ∨ (r' = nI 1 ∧ sg_ct hs 126 + 1 ≤ sg_ct hs' 126))) (cx_B Dg (mT ct) (mW ad ct) A) A) ([.ref (ad 0)] : List Value).toArray s 0 0 A) (F0 m 4 ls [])) → ∀ (n x g : Nat) (hs1 : Nat → Nat) (vl1 : Nat → Int32) (pa pb : Nat), x ≤ 6 → 7 ≤ x + n → sg_Sw (kd, da, db) hs vl hs1 vl1 g k x → ∀ (H : Heap) (locs : List Loc) (ls : Array Slot), cx_W Dg (mT ct) A s s.heap H locs (mW ad ct (kd, da, db, hs1, vl1, pa, pb)) → lv_has ls 4 [(3, .int (nI x)), (2, .int (nI k)), (1, .int (nI g)), (0, .ref (ad 0))] → W p l e ({ frames := 3, cells := 0, slots := 0, locals := 71 }) s m ([.ref (ad 0)] : List Value).toArray below meth c H locs 0 0 (MQ below (va_Qi (fun r' u' => ∃ hs' vl' pa' pb', u' = (kd, da, db, hs', vl', pa', pb') ∧ (∀ j, j < 126 → hs' j ≤ 1) ∧ sg_Mi (kd, da, db) (sg_tb hs' vl') ∧ ((r' = nI 0 ∧ sg_Cl (kd, da, db) hs' vl') ∨ (r' = nI 1 ∧ sg_ct hs 126 + 1 ≤ sg_ct hs' 126))) (cx_B Dg (mT ct) (mW ad ct) A) A) ([.ref (ad 0)] : List Value).toArray s 0 0 A) (F0 m 12 ls []) := by
    intro k hk20 K n
    induction n with
    | zero =>
      intro x g hs1 vl1 pa pb h1 h2
      exact absurd h2 (by omega)
    | succ n ih =>
      intro x g hs1 vl1 pa pb hx hn hS H locs ls hw hl
      have hg1 := hS.le1
      refine lv_iload_n hC.1 hC.2.1 dX1_sweep_12 rfl (lv_at hl 0 rfl) ?_
      refine lv_bipush (v := nI 6) hC.1 hC.2.1 dX1_sweep_13 (by decide) ?_
      refine xn_icmp_ge (tgt := 78) hC (by omega) (by omega) dX1_sweep_15 (by decide) (fun c1 => ?_) (fun c1 => ?_)
      · refine lv_iinc (v := nI (k + 1)) (lv' := [(2, .int (nI (k + 1))), (3, .int (nI x)), (1, .int (nI g)), (0, .ref (ad 0))]) hC.1 hC.2.1 dX1_sweep_78 hl (k := 1) rfl (xn_inc _) (by decide) rfl (fun ls hl => ?_)
        refine lv_goto (tgt := 4) hC.1 hC.2.1 dX1_sweep_81 (by decide) ?_
        exact K g hs1 vl1 pa pb (hS.row c1) H locs ls hw (lv_sub hl [0, 2, 3] rfl)
      · refine lv_aload_n hC.1 hC.2.1 dX1_sweep_18 rfl (lv_at hl 3 rfl) ?_
        refine m_g_has hC hw dX1_sweep_19 ?_
        refine lv_bipush (v := nI 21) hC.1 hC.2.1 dX1_sweep_22 (by decide) ?_
        refine lv_iload_n hC.1 hC.2.1 dX1_sweep_24 rfl (lv_at hl 0 rfl) ?_
        refine xn_imul (r := 21 * x) hC rfl dX1_sweep_25 ?_
        refine lv_iload_n hC.1 hC.2.1 dX1_sweep_26 rfl (lv_at hl 1 rfl) ?_
        refine xn_iadd (r := (21 * x) + k) hC rfl dX1_sweep_27 ?_
        refine m_ld_hs (i := (21 * x) + k) hC hw (by omega) dX1_sweep_28 ?_
        refine xn_if_ne (tgt := 72) hC (by have := hS.1 (21 * x + k) (by omega); omega) dX1_sweep_29 (by decide) (fun c2 => ?_) (fun c2 => ?_)
        · refine lv_iinc (v := nI (x + 1)) (lv' := [(3, .int (nI (x + 1))), (2, .int (nI k)), (1, .int (nI g)), (0, .ref (ad 0))]) hC.1 hC.2.1 dX1_sweep_72 hl (k := 0) rfl (xn_inc _) (by decide) rfl (fun ls hl => ?_)
          refine lv_goto (tgt := 12) hC.1 hC.2.1 dX1_sweep_75 (by decide) ?_
          exact ih (x + 1) g hs1 vl1 _ _ (by omega) (by omega) (hS.skip (Or.inl c2)) H locs ls hw (lv_sub hl [0, 1, 2, 3] rfl)
        · refine lv_aload_n hC.1 hC.2.1 dX1_sweep_32 rfl (lv_at hl 3 rfl) ?_
          refine lv_iload_n hC.1 hC.2.1 dX1_sweep_33 rfl (lv_at hl 0 rfl) ?_
          refine lv_iload_n hC.1 hC.2.1 dX1_sweep_34 rfl (lv_at hl 1 rfl) ?_
          refine cx_calli (ci := 1) (rest := []) (m_needsMet l (x := x) (k := k) hD hS.1 hS.2.1 (by omega) hk20) hC hml hl.1 hw rfl (cwV 2 hC.2.2.2 (lw_V q252 q254 qs23 q30 q255) rfl rfl rfl (by decide +kernel) ⟨Nat.le_of_ble_eq_true rfl, Nat.le_of_ble_eq_true rfl⟩) rfl rfl rfl rfl (Nat.le_of_ble_eq_true rfl) dX1_sweep_35 ⟨Nat.zero_le _, Nat.zero_le _⟩ (fun r u' H locs hp hw => ?_)
          obtain ⟨pa', pb', rfl, hp⟩ := hp
          rcases hp with ⟨rfl, hnd⟩ | ⟨rfl, hnd⟩
          · obtain ⟨v, hv⟩ := hnd
            refine xn_if_eq (tgt := 72) hC (by omega) dX1_sweep_38 (by decide) (fun c => absurd c (by decide)) (fun _ => ?_)
            refine lv_aload_n hC.1 hC.2.1 dX1_sweep_41 rfl (lv_at hl 3 rfl) ?_
            refine m_g_value hC hw dX1_sweep_42 ?_
            refine lv_bipush (v := nI 21) hC.1 hC.2.1 dX1_sweep_45 (by decide) ?_
            refine lv_iload_n hC.1 hC.2.1 dX1_sweep_47 rfl (lv_at hl 0 rfl) ?_
            refine xn_imul (r := 21 * x) hC rfl dX1_sweep_48 ?_
            refine lv_iload_n hC.1 hC.2.1 dX1_sweep_49 rfl (lv_at hl 1 rfl) ?_
            refine xn_iadd (r := (21 * x) + k) hC rfl dX1_sweep_50 ?_
            refine lv_aload_n hC.1 hC.2.1 dX1_sweep_51 rfl (lv_at hl 3 rfl) ?_
            refine lv_iload_n hC.1 hC.2.1 dX1_sweep_52 rfl (lv_at hl 0 rfl) ?_
            refine lv_iload_n hC.1 hC.2.1 dX1_sweep_53 rfl (lv_at hl 1 rfl) ?_
            refine cx_calli (ci := 1) (rest := [.int (nI ((21 * x) + k)), .ref (ad 5)]) (m_worth l (x := x) (k := k) hD hS.1 hS.2.1 (by omega) hk20 hv) hC hml hl.1 hw rfl (cwV 2 hC.2.2.2 (lw_V q268 q270 qs27 q30 q271) rfl rfl rfl (by decide +kernel) ⟨Nat.le_of_ble_eq_true rfl, Nat.le_of_ble_eq_true rfl⟩) rfl rfl rfl rfl (Nat.le_of_ble_eq_true rfl) dX1_sweep_54 ⟨Nat.zero_le _, Nat.zero_le _⟩ (fun r u' H locs hp hw => ?_)
            obtain ⟨pa', pb', rfl, rfl⟩ := hp
            refine m_st_vl (i := (21 * x) + k) (v := r) hC hw (by omega) dX1_sweep_57 (fun H locs hw => ?_)
            refine lv_aload_n hC.1 hC.2.1 dX1_sweep_58 rfl (lv_at hl 3 rfl) ?_
            refine m_g_has hC hw dX1_sweep_59 ?_
            refine lv_bipush (v := nI 21) hC.1 hC.2.1 dX1_sweep_62 (by decide) ?_
            refine lv_iload_n hC.1 hC.2.1 dX1_sweep_64 rfl (lv_at hl 0 rfl) ?_
            refine xn_imul (r := 21 * x) hC rfl dX1_sweep_65 ?_
            refine lv_iload_n hC.1 hC.2.1 dX1_sweep_66 rfl (lv_at hl 1 rfl) ?_
            refine xn_iadd (r := (21 * x) + k) hC rfl dX1_sweep_67 ?_
            refine lv_iconst (v := nI 1) hC.1 hC.2.1 dX1_sweep_68 (by decide) ?_
            refine m_st_hs (i := (21 * x) + k) (v := 1) hC hw (by omega) (by omega) dX1_sweep_69 (fun H locs hw => ?_)
            refine lv_iconst (v := nI 1) hC.1 hC.2.1 dX1_sweep_70 (by decide) ?_
            refine lv_istore_n (lv' := [(1, .int (nI 1)), (3, .int (nI x)), (2, .int (nI k)), (0, .ref (ad 0))]) hC.1 hC.2.1 dX1_sweep_71 rfl hl (by decide) rfl (fun ls hl => ?_)
            refine lv_iinc (v := nI (x + 1)) (lv' := [(3, .int (nI (x + 1))), (1, .int (nI 1)), (2, .int (nI k)), (0, .ref (ad 0))]) hC.1 hC.2.1 dX1_sweep_72 hl (k := 1) rfl (xn_inc _) (by decide) rfl (fun ls hl => ?_)
            refine lv_goto (tgt := 12) hC.1 hC.2.1 dX1_sweep_75 (by decide) ?_
            exact ih (x + 1) 1 _ _ _ _ (by omega) (by omega) (hS.add hD (by omega) hk20 c2 hv) H locs ls hw (lv_sub hl [0, 2, 1, 3] rfl)
          · refine xn_if_eq (tgt := 72) hC (by omega) dX1_sweep_38 (by decide) (fun _ => ?_) (fun c => absurd c (by decide))
            refine lv_iinc (v := nI (x + 1)) (lv' := [(3, .int (nI (x + 1))), (2, .int (nI k)), (1, .int (nI g)), (0, .ref (ad 0))]) hC.1 hC.2.1 dX1_sweep_72 hl (k := 0) rfl (xn_inc _) (by decide) rfl (fun ls hl => ?_)
            refine lv_goto (tgt := 12) hC.1 hC.2.1 dX1_sweep_75 (by decide) ?_
            exact ih (x + 1) g hs1 vl1 _ _ (by omega) (by omega) (hS.skip (Or.inr hnd)) H locs ls hw (lv_sub hl [0, 1, 2, 3] rfl)
  have outer : ∀ (n k g : Nat) (hs1 : Nat → Nat) (vl1 : Nat → Int32) (pa pb : Nat), k ≤ 21 → 22 ≤ k + n → sg_Sw (kd, da, db) hs vl hs1 vl1 g k 0 → ∀ (H : Heap) (locs : List Loc) (ls : Array Slot), cx_W Dg (mT ct) A s s.heap H locs (mW ad ct (kd, da, db, hs1, vl1, pa, pb)) → lv_has ls 4 [(2, .int (nI k)), (1, .int (nI g)), (0, .ref (ad 0))] → W p l e ({ frames := 3, cells := 0, slots := 0, locals := 71 }) s m ([.ref (ad 0)] : List Value).toArray below meth c H locs 0 0 (MQ below (va_Qi (fun r' u' => ∃ hs' vl' pa' pb', u' = (kd, da, db, hs', vl', pa', pb') ∧ (∀ j, j < 126 → hs' j ≤ 1) ∧ sg_Mi (kd, da, db) (sg_tb hs' vl') ∧ ((r' = nI 0 ∧ sg_Cl (kd, da, db) hs' vl') ∨ (r' = nI 1 ∧ sg_ct hs 126 + 1 ≤ sg_ct hs' 126))) (cx_B Dg (mT ct) (mW ad ct) A) A) ([.ref (ad 0)] : List Value).toArray s 0 0 A) (F0 m 4 ls []) := by
    intro n
    induction n with
    | zero =>
      intro k g hs1 vl1 pa pb h1 h2
      exact absurd h2 (by omega)
    | succ n ih =>
      intro k g hs1 vl1 pa pb hk hn hS H locs ls hw hl
      refine lv_iload_n hC.1 hC.2.1 dX1_sweep_4 rfl (lv_at hl 0 rfl) ?_
      refine lv_bipush (v := nI 20) hC.1 hC.2.1 dX1_sweep_5 (by decide) ?_
      refine xn_icmp_gt (tgt := 84) hC (by omega) (by omega) dX1_sweep_7 (by decide) (fun c0 => ?_) (fun c0 => ?_)
      · refine lv_iload_n hC.1 hC.2.1 dX1_sweep_84 rfl (lv_at hl 1 rfl) ?_
        have hk21 : k = 21 := by omega
        subst hk21
        obtain ⟨b1, b2, b3⟩ := hS
        rcases b3 with ⟨rfl, e2, e3, b4⟩ | ⟨rfl, b4⟩
        · exact cx_zret hC hr hlk hw (by decide) ⟨_, _, _, _, rfl, b1, b2, Or.inl ⟨rfl, by rw [e2, e3]; exact fun x k hx hk => b4 k x hx (by omega)⟩⟩ dX1_sweep_85
        · exact cx_zret hC hr hlk hw (by decide) ⟨_, _, _, _, rfl, b1, b2, Or.inr ⟨rfl, b4⟩⟩ dX1_sweep_85
      · refine lv_iconst (v := nI 0) hC.1 hC.2.1 dX1_sweep_10 (by decide) ?_
        refine lv_istore_n (lv' := [(3, .int (nI 0)), (2, .int (nI k)), (1, .int (nI g)), (0, .ref (ad 0))]) hC.1 hC.2.1 dX1_sweep_11 rfl hl (by decide) rfl (fun ls hl => ?_)
        exact inner k (by omega) (fun g hs1 vl1 pa pb h => ih (k + 1) g hs1 vl1 pa pb (by omega) (by omega) h) 7 0 g hs1 vl1 pa pb (by omega) (by omega) hS H locs ls hw (lv_sub hl [0, 1, 2, 3] rfl)
  refine lv_iconst (v := nI 0) hC.1 hC.2.1 dX1_sweep_0 (by decide) ?_
  refine lv_istore_n (lv' := [(1, .int (nI 0)), (0, .ref (ad 0))]) hC.1 hC.2.1 dX1_sweep_1 rfl hl (by decide) rfl (fun ls hl => ?_)
  refine lv_iconst (v := nI 0) hC.1 hC.2.1 dX1_sweep_2 (by decide) ?_
  refine lv_istore_n (lv' := [(2, .int (nI 0)), (1, .int (nI 0)), (0, .ref (ad 0))]) hC.1 hC.2.1 dX1_sweep_3 rfl hl (by decide) rfl (fun ls hl => ?_)
  exact outer 22 0 0 hs vl pa pb (by omega) (by omega) ⟨h01, hM, Or.inl ⟨rfl, rfl, rfl, fun k' s' _ q => absurd q (by omega)⟩⟩ _ _ _ hw (lv_sub hl [0, 1, 2] rfl)
set_option maxHeartbeats 4000000 in
set_option maxRecDepth 100000 in
/-- rounds until nothing is new -/
theorem m_fill (l : Launch) {kd : Nat → Nat} {da : Nat → Int32} {db : Nat → Int32} {hs : Nat → Nat} {vl : Nat → Int32} {pa : Nat} {pb : Nat}  (hD : sg_Ok (kd, da, db)) : cx_Mv l yX1_fill cX1_fill 3 ({ frames := 4, cells := 0, slots := 0, locals := 94 }) mW mT [] (fun u => u = (kd, da, db, hs, vl, pa, pb)) (fun _ u' => ∃ hs' vl' pa' pb', u' = (kd, da, db, hs', vl', pa', pb') ∧ (∀ j, j < 126 → hs' j ≤ 1) ∧ sg_Fl (kd, da, db) hs' vl') := by
  refine cx_Mv.of (by decide) (fun _ => Nat.le_of_ble_eq_true rfl) ?_
  intro p e s m below meth c Dg ad ct A u ls hu hC hml hr hk hw hl
  subst hu
  have hC : cx_C p m c cX1_fill s _ RX1 := hC
  have hl : lv_has ls 3 [(0, .ref (ad 0))] := hl
  have loop2 : ∀ (n : Nat) (i g : Nat) (hs1 : Nat → Nat) (vl1 : Nat → Int32) (pa pb : Nat), i ≤ 127 → 128 ≤ i + n → (∀ j, j < 126 → hs1 j ≤ 1) → sg_Mi (kd, da, db) (sg_tb hs1 vl1) → ((g = 0 ∧ sg_Cl (kd, da, db) hs1 vl1) ∨ (g = 1 ∧ i ≤ sg_ct hs1 126)) → ∀ (H : Heap) (locs : List Loc) (ls : Array Slot), cx_W Dg (mT ct) A s s.heap H locs (mW ad ct (kd, da, db, hs1, vl1, pa, pb)) → lv_has ls 3 [(2, .int (nI i)), (1, .int (nI g)), (0, .ref (ad 0))] → W p l e ({ frames := 4, cells := 0, slots := 0, locals := 94 }) s m ([.ref (ad 0)] : List Value).toArray below meth c H locs 0 0 (MQ below (va_Qv (fun u' => ∃ hs' vl' pa' pb', u' = (kd, da, db, hs', vl', pa', pb') ∧ (∀ j, j < 126 → hs' j ≤ 1) ∧ sg_Fl (kd, da, db) hs' vl') (cx_B Dg (mT ct) (mW ad ct) A) A) ([.ref (ad 0)] : List Value).toArray s 0 0 A) (F0 m 25 ls []) := by
    intro n
    induction n with
    | zero =>
      intro i g hs1 vl1 pa pb hi hn h1 h2 h3
      exact absurd hn (by omega)
    | succ n ih =>
      intro i g hs1 vl1 pa pb hi hn h1 h2 h3 H locs ls hw hl
      refine lv_iload_n hC.1 hC.2.1 dX1_fill_25 rfl (lv_at hl 0 rfl) ?_
      refine lv_bipush (v := nI 127) hC.1 hC.2.1 dX1_fill_26 (by decide) ?_
      refine xn_icmp_ge (tgt := 46) hC (by omega) (by omega) dX1_fill_28 (by decide) (fun c1 => ?_) (fun c1 => ?_)
      · rcases h3 with ⟨-, h3⟩ | ⟨-, h3⟩
        · exact cx_vret hC hr hk hw ⟨_, _, _, _, rfl, h1, h2, h3⟩ dX1_fill_46
        · exact absurd (sg_ct_le hs1 126) (by omega)
      · refine lv_iload_n hC.1 hC.2.1 dX1_fill_31 rfl (lv_at hl 1 rfl) ?_
        refine xn_if_eq (tgt := 46) hC (by rcases h3 with h3 | h3 <;> omega) dX1_fill_32 (by decide) (fun c2 => ?_) (fun c2 => ?_)
        · rcases h3 with ⟨-, h3⟩ | ⟨h3, -⟩
          · exact cx_vret hC hr hk hw ⟨_, _, _, _, rfl, h1, h2, h3⟩ dX1_fill_46
          · exact absurd c2 (by omega)
        · refine lv_aload_n hC.1 hC.2.1 dX1_fill_35 rfl (lv_at hl 2 rfl) ?_
          refine cx_calli (ci := 1) (rest := []) (m_sweep l hD h1 h2) hC hml hl.1 hw rfl (cwV 0 hC.2.2.2 (lw_V q248 q250 qs22 q30 q251) rfl rfl rfl (by decide +kernel) ⟨Nat.le_of_ble_eq_true rfl, Nat.le_of_ble_eq_true rfl⟩) rfl rfl rfl rfl (Nat.le_of_ble_eq_true rfl) dX1_fill_36 ⟨Nat.zero_le _, Nat.zero_le _⟩ (fun r u' H locs hp hw => ?_)
          obtain ⟨hs', vl', pa', pb', rfl, h01', hM', hp⟩ := hp
          rcases hp with ⟨rfl, hcl⟩ | ⟨rfl, hct⟩
          · refine lv_istore_n (lv' := [(1, .int (nI 0)), (2, .int (nI i)), (0, .ref (ad 0))]) hC.1 hC.2.1 dX1_fill_39 rfl hl (by decide) rfl (fun ls hl => ?_)
            refine lv_iinc (v := nI (i + 1)) (lv' := [(2, .int (nI (i + 1))), (1, .int (nI 0)), (0, .ref (ad 0))]) hC.1 hC.2.1 dX1_fill_40 hl (k := 1) rfl (xn_inc _) (by decide) rfl (fun ls hl => ?_)
            refine lv_goto (tgt := 25) hC.1 hC.2.1 dX1_fill_43 (by decide) ?_
            exact ih (i + 1) 0 _ _ _ _ (by omega) (by omega) h01' hM' (Or.inl ⟨rfl, hcl⟩) H locs ls hw (lv_sub hl [0, 1, 2] rfl)
          · refine lv_istore_n (lv' := [(1, .int (nI 1)), (2, .int (nI i)), (0, .ref (ad 0))]) hC.1 hC.2.1 dX1_fill_39 rfl hl (by decide) rfl (fun ls hl => ?_)
            refine lv_iinc (v := nI (i + 1)) (lv' := [(2, .int (nI (i + 1))), (1, .int (nI 1)), (0, .ref (ad 0))]) hC.1 hC.2.1 dX1_fill_40 hl (k := 1) rfl (xn_inc _) (by decide) rfl (fun ls hl => ?_)
            refine lv_goto (tgt := 25) hC.1 hC.2.1 dX1_fill_43 (by decide) ?_
            exact ih (i + 1) 1 _ _ _ _ (by omega) (by omega) h01' hM' (Or.inr ⟨rfl, by rcases h3 with h3 | h3 <;> omega⟩) H locs ls hw (lv_sub hl [0, 1, 2] rfl)
  have loop : ∀ (n : Nat) (i : Nat) (hs1 : Nat → Nat), i ≤ 126 → 127 ≤ i + n → (∀ j, j < i → hs1 j = 0) → ∀ (H : Heap) (locs : List Loc) (ls : Array Slot), cx_W Dg (mT ct) A s s.heap H locs (mW ad ct (kd, da, db, hs1, vl, pa, pb)) → lv_has ls 3 [(1, .int (nI i)), (0, .ref (ad 0))] → W p l e ({ frames := 4, cells := 0, slots := 0, locals := 94 }) s m ([.ref (ad 0)] : List Value).toArray below meth c H locs 0 0 (MQ below (va_Qv (fun u' => ∃ hs' vl' pa' pb', u' = (kd, da, db, hs', vl', pa', pb') ∧ (∀ j, j < 126 → hs' j ≤ 1) ∧ sg_Fl (kd, da, db) hs' vl') (cx_B Dg (mT ct) (mW ad ct) A) A) ([.ref (ad 0)] : List Value).toArray s 0 0 A) (F0 m 2 ls []) := by
    intro n
    induction n with
    | zero =>
      intro i hs1 hi hn h1
      exact absurd hn (by omega)
    | succ n ih =>
      intro i hs1 hi hn h1 H locs ls hw hl
      refine lv_iload_n hC.1 hC.2.1 dX1_fill_2 rfl (lv_at hl 0 rfl) ?_
      refine lv_bipush (v := nI 126) hC.1 hC.2.1 dX1_fill_3 (by decide) ?_
      refine xn_icmp_ge (tgt := 21) hC (by omega) (by omega) dX1_fill_5 (by decide) (fun c0 => ?_) (fun c0 => ?_)
      · refine lv_iconst (v := nI 1) hC.1 hC.2.1 dX1_fill_21 (by decide) ?_
        refine lv_istore_n (lv' := [(1, .int (nI 1)), (0, .ref (ad 0))]) hC.1 hC.2.1 dX1_fill_22 rfl hl (by decide) rfl (fun ls hl => ?_)
        refine lv_iconst (v := nI 0) hC.1 hC.2.1 dX1_fill_23 (by decide) ?_
        refine lv_istore_n (lv' := [(2, .int (nI 0)), (1, .int (nI 1)), (0, .ref (ad 0))]) hC.1 hC.2.1 dX1_fill_24 rfl hl (by decide) rfl (fun ls hl => ?_)
        have hz : ∀ j, j < 126 → hs1 j = 0 := fun j hj => h1 j (by omega)
        have he : ∀ s k, s < 6 → sg_tb hs1 vl s k = none := fun s k hs6 => by
          unfold sg_tb
          rw [if_neg]
          rintro ⟨q1, q2⟩
          exact q2 (hz _ (by omega))
        exact loop2 128 0 1 hs1 vl pa pb (by omega) (by omega) (fun j hj => by rw [hz j hj]; omega) (sg_Mi.empty he) (Or.inr ⟨rfl, Nat.zero_le _⟩) H locs ls hw (lv_sub hl [0, 1, 2] rfl)
      · refine lv_aload_n hC.1 hC.2.1 dX1_fill_8 rfl (lv_at hl 1 rfl) ?_
        refine m_g_has hC hw dX1_fill_9 ?_
        refine lv_iload_n hC.1 hC.2.1 dX1_fill_12 rfl (lv_at hl 0 rfl) ?_
        refine lv_iconst (v := nI 0) hC.1 hC.2.1 dX1_fill_13 (by decide) ?_
        refine m_st_hs (i := i) (v := 0) hC hw (by omega) (by omega) dX1_fill_14 (fun H locs hw => ?_)
        refine lv_iinc (v := nI (i + 1)) (lv' := [(1, .int (nI (i + 1))), (0, .ref (ad 0))]) hC.1 hC.2.1 dX1_fill_15 hl (k := 0) rfl (xn_inc _) (by decide) rfl (fun ls hl => ?_)
        refine lv_goto (tgt := 2) hC.1 hC.2.1 dX1_fill_18 (by decide) ?_
        exact ih (i + 1) _ (by omega) (by omega) (fun j hj => by by_cases e : j = i; rw [e, sg_us]; rw [sg_un e]; exact h1 j (by omega)) H locs ls hw (lv_sub hl [0, 1] rfl)
  refine lv_iconst (v := nI 0) hC.1 hC.2.1 dX1_fill_0 (by decide) ?_
  refine lv_istore_n (lv' := [(1, .int (nI 0)), (0, .ref (ad 0))]) hC.1 hC.2.1 dX1_fill_1 rfl hl (by decide) rfl (fun ls hl => ?_)
  exact loop 127 0 hs (by omega) (by omega) (fun j hj => absurd hj (by omega)) _ _ _ hw (lv_sub hl [0, 1] rfl)
set_option maxHeartbeats 4000000 in
set_option maxRecDepth 100000 in
/-- may it be asked -/
theorem m_asked (l : Launch) {U : mS} {x y : Int32}  : cx_Mi l yX1_asked cX1_asked 3 (some .boolean) ({ frames := 1, cells := 0, slots := 0, locals := 21 }) mW mT [.int x, .int y] (fun u => u = U) (fun _ r' u' => (r' = nI 1 ∧ u' = U ∧ (sg_sq x ∧ sg_k15 y)) ∨ (r' = nI 0 ∧ u' = U ∧ ¬ (sg_sq x ∧ sg_k15 y))) := by
  refine cx_Mi.of (by decide) (fun _ => Nat.le_of_ble_eq_true rfl) ?_
  intro p e s m below meth c Dg ad ct A u ls hu hC hml hr hk hw hl
  subst hu
  have hC : cx_C p m c cX1_asked s _ RX1 := hC
  have hl : lv_has ls 3 [(0, .ref (ad 0)), (1, .int x), (2, .int y)] := hl
  refine lv_aload_n hC.1 hC.2.1 dX1_asked_0 rfl (lv_at hl 0 rfl) ?_
  refine lv_iload_n hC.1 hC.2.1 dX1_asked_1 rfl (lv_at hl 1 rfl) ?_
  refine cx_calli (ci := 1) (rest := []) (m_isSequence l (x := x) ) hC hml hl.1 hw rfl (cwV 1 hC.2.2.2 (lw_V q224 q226 qs17 q30 q227) rfl rfl rfl (by decide +kernel) ⟨Nat.le_of_ble_eq_true rfl, Nat.le_of_ble_eq_true rfl⟩) rfl rfl rfl rfl (Nat.le_of_ble_eq_true rfl) dX1_asked_2 ⟨Nat.zero_le _, Nat.zero_le _⟩ (fun r u' H locs hp hwn => ?_)
  clear hw
  have hw := hwn
  rcases hp with ⟨rfl, rfl, hq1⟩ | ⟨rfl, rfl, hq1⟩
  · refine xn_if_eq (tgt := 22) hC (by omega) dX1_asked_5 (by decide) (fun c => absurd c (by decide)) (fun _ => ?_)
    refine lv_iload_n hC.1 hC.2.1 dX1_asked_8 rfl (lv_at hl 2 rfl) ?_
    refine lv_if_lt (tgt := 22) hC.1 hC.2.1 dX1_asked_9 (by decide) (fun c1 => ?_) (fun c1 => ?_)
    · refine lv_iconst (v := nI 0) hC.1 hC.2.1 dX1_asked_22 (by decide) ?_
      exact cx_zret hC hr hk hw (by decide) (Or.inr ⟨rfl, rfl, fun q => sg_k15_neg c1 q.2⟩) dX1_asked_23
    · refine lv_iload_n hC.1 hC.2.1 dX1_asked_12 rfl (lv_at hl 2 rfl) ?_
      refine lv_bipush (v := nI 15) hC.1 hC.2.1 dX1_asked_13 (by decide) ?_
      refine lv_icmp_gt (tgt := 22) hC.1 hC.2.1 dX1_asked_15 (by decide) (fun c2 => ?_) (fun c2 => ?_)
      · refine lv_iconst (v := nI 0) hC.1 hC.2.1 dX1_asked_22 (by decide) ?_
        exact cx_zret hC hr hk hw (by decide) (Or.inr ⟨rfl, rfl, fun q => sg_k15_big (Int32.not_le.mpr c2) q.2⟩) dX1_asked_23
      · refine lv_iconst (v := nI 1) hC.1 hC.2.1 dX1_asked_18 (by decide) ?_
        refine lv_goto (tgt := 23) hC.1 hC.2.1 dX1_asked_19 (by decide) ?_
        exact cx_zret hC hr hk hw (by decide) (Or.inl ⟨rfl, rfl, hq1, sg_k15_yes c1 (Int32.not_lt.mp c2)⟩) dX1_asked_23
  · refine xn_if_eq (tgt := 22) hC (by omega) dX1_asked_5 (by decide) (fun _ => ?_) (fun c => absurd c (by decide))
    refine lv_iconst (v := nI 0) hC.1 hC.2.1 dX1_asked_22 (by decide) ?_
    exact cx_zret hC hr hk hw (by decide) (Or.inr ⟨rfl, rfl, fun q => hq1 q.1⟩) dX1_asked_23
end
section

/-! SelectorGcModel: what is asked -/
def mSt (D : sg_D) (u : mS) : Prop := match u with
  | (kd, da, db, hs, vl, pa, pb) => D = (kd, da, db) ∧ ∀ j, j < 126 → hs j ≤ 1
theorem sg_vs {D : sg_D} (hD : sg_Ok D) {hs : Nat → Nat} {vl : Nat → Int32} (h : sg_Fl D hs vl) {s k : Nat} (hs6 : s < 6) (hk : k ≤ 15) (hv : ∃ v, sg_tb hs vl s k = some v) : sg_V D s k = some (vl (21 * s + k)) := by
  obtain ⟨v, hv⟩ := hv
  rw [← h.v hD hs6 hk, hv, (sg_tb_some hv).2.2]
theorem sg_vn {D : sg_D} (hD : sg_Ok D) {hs : Nat → Nat} {vl : Nat → Int32} (h : sg_Fl D hs vl) {s k : Nat} (hs6 : s < 6) (hk : k ≤ 15) (hv : ¬ ∃ v, sg_tb hs vl s k = some v) : sg_V D s k = none := by
  rw [← h.v hD hs6 hk]
  cases e : sg_tb hs vl s k with
  | none => rfl
  | some v => exact absurd ⟨v, e⟩ hv
theorem sg_df_ok {D : sg_D} (hD : sg_Ok D) {i c : Nat} {a b : Int32} (hc : c ≤ 8) (ha : sg_usA c → sg_sq a) (hb : sg_usB c → sg_sq b) : sg_Ok (sg_df D i c a b) := by
  intro s hs
  unfold sg_df sg_kd sg_na sg_nb
  by_cases e : s = i
  · subst e
    show va_up D.1 s c s ≤ 8 ∧ (sg_usA (va_up D.1 s c s) → ∃ j, j < 6 ∧ va_up D.2.1 s a s = nI j) ∧ (sg_usB (va_up D.1 s c s) → ∃ j, j < 6 ∧ va_up D.2.2 s b s = nI j)
    rw [sg_us, sg_us, sg_us]
    exact ⟨hc, ha, hb⟩
  · show va_up D.1 i c s ≤ 8 ∧ (sg_usA (va_up D.1 i c s) → ∃ j, j < 6 ∧ va_up D.2.1 i a s = nI j) ∧ (sg_usB (va_up D.1 i c s) → ∃ j, j < 6 ∧ va_up D.2.2 i b s = nI j)
    rw [sg_un e, sg_un e, sg_un e]
    exact hD s hs
theorem sg_rs_ok {D : sg_D} (hD : sg_Ok D) : ∀ n, sg_Ok (sg_rs D n) := by
  intro n
  induction n with
  | zero => exact hD
  | succ n ih => exact sg_df_ok ih (by omega) (fun h => absurd h (by unfold sg_usA; omega)) (fun h => absurd h (by unfold sg_usB; omega))
theorem sg_df_rs {D D' : sg_D} {i : Nat} {r : Int32} (hi : i < 6) (h : sg_Df (sg_rs D i) (nI i) (nI 0) (nI 0) (nI 0) r D') : D' = sg_rs D (i + 1) := by
  rcases h with ⟨i', c, ⟨h1, h2, h3, h4, -, -⟩, -, e⟩ | ⟨h, -, -⟩
  · have e1 := (nI_eq (by omega) (by omega)).mp h3
    have e2 := (nI_eq (by omega) (by omega)).mp h4
    subst e1
    subst e2
    exact e
  · exact absurd ⟨i, 0, hi, by omega, rfl, rfl, fun h => absurd h (by unfold sg_usA; omega), fun h => absurd h (by unfold sg_usB; omega)⟩ h
set_option maxHeartbeats 4000000 in
set_option maxRecDepth 100000 in
/-- asked for an element -/
theorem m_ready (l : Launch)  {D : sg_D} {x y : Int32} (hD : sg_Ok D) : cx_Mi l yX1_ready cX1_ready 3 (some .boolean) ({ frames := 5, cells := 0, slots := 0, locals := 116 }) mW mT [.int x, .int y] (mSt D) (fun _ r' u' => mSt D u' ∧ sg_Ry D x y r') := by
  refine cx_Mi.of (by decide) (fun _ => Nat.le_of_ble_eq_true rfl) ?_
  intro p e s m below meth c Dg ad ct A u ls hu hC hml hr hk hw hl
  obtain ⟨kd, da, db, hs, vl, pa, pb⟩ := u
  obtain ⟨rfl, h01⟩ := hu
  have hC : cx_C p m c cX1_ready s _ RX1 := hC
  have hl : lv_has ls 3 [(0, .ref (ad 0)), (1, .int x), (2, .int y)] := hl
  refine lv_aload_n hC.1 hC.2.1 dX1_ready_0 rfl (lv_at hl 0 rfl) ?_
  refine lv_iload_n hC.1 hC.2.1 dX1_ready_1 rfl (lv_at hl 1 rfl) ?_
  refine lv_iload_n hC.1 hC.2.1 dX1_ready_2 rfl (lv_at hl 2 rfl) ?_
  refine cx_calli (ci := 1) (rest := []) (m_asked l (x := x) (y := y)) hC hml hl.1 hw rfl (cwV 2 hC.2.2.2 (lw_V q240 q242 qs20 q30 q243) rfl rfl rfl (by decide +kernel) ⟨Nat.le_of_ble_eq_true rfl, Nat.le_of_ble_eq_true rfl⟩) rfl rfl rfl rfl (Nat.le_of_ble_eq_true rfl) dX1_ready_3 ⟨Nat.zero_le _, Nat.zero_le _⟩ (fun r u' H locs hp hw => ?_)
  rcases hp with ⟨rfl, rfl, hq⟩ | ⟨rfl, rfl, hq⟩
  · obtain ⟨⟨i, hi, rfl⟩, ⟨j, hj, rfl⟩⟩ := hq
    refine xn_if_ne (tgt := 11) hC (by omega) dX1_ready_6 (by decide) (fun _ => ?_) (fun c => absurd c (by decide))
    refine lv_aload_n hC.1 hC.2.1 dX1_ready_11 rfl (lv_at hl 0 rfl) ?_
    refine cx_callv (ci := 1) (rest := []) (m_fill l hD) hC hml hl.1 hw rfl (cwV 0 hC.2.2.2 (lw_V q244 q246 qs21 q30 q247) rfl rfl rfl (by decide +kernel) ⟨Nat.le_of_ble_eq_true rfl, Nat.le_of_ble_eq_true rfl⟩) rfl rfl rfl rfl (Nat.le_of_ble_eq_true rfl) dX1_ready_12 ⟨Nat.zero_le _, Nat.zero_le _⟩ (fun u' H locs hp hw => ?_)
    obtain ⟨hs', vl', pa', pb', rfl, h01', hFl⟩ := hp
    refine lv_aload_n hC.1 hC.2.1 dX1_ready_15 rfl (lv_at hl 0 rfl) ?_
    refine lv_iload_n hC.1 hC.2.1 dX1_ready_16 rfl (lv_at hl 1 rfl) ?_
    refine lv_iload_n hC.1 hC.2.1 dX1_ready_17 rfl (lv_at hl 2 rfl) ?_
    refine cx_calli (ci := 1) (rest := []) (m_hasAt l (x := i) (k := j) h01' (by omega) (by omega)) hC hml hl.1 hw rfl (cwV 2 hC.2.2.2 (lw_V q256 q258 qs24 q30 q259) rfl rfl rfl (by decide +kernel) ⟨Nat.le_of_ble_eq_true rfl, Nat.le_of_ble_eq_true rfl⟩) rfl rfl rfl rfl (Nat.le_of_ble_eq_true rfl) dX1_ready_18 ⟨Nat.zero_le _, Nat.zero_le _⟩ (fun r u' H locs hp hw => ?_)
    rcases hp with ⟨rfl, rfl, h1⟩ | ⟨rfl, rfl, h1⟩
    · exact cx_zret hC hr hk hw (by decide) ⟨⟨rfl, h01'⟩, Or.inl ⟨i, j, hi, hj, rfl, rfl, Or.inr ⟨by rw [sg_vs hD hFl hi hj h1]; simp, rfl⟩⟩⟩ dX1_ready_21
    · exact cx_zret hC hr hk hw (by decide) ⟨⟨rfl, h01'⟩, Or.inl ⟨i, j, hi, hj, rfl, rfl, Or.inl ⟨sg_vn hD hFl hi hj h1, rfl⟩⟩⟩ dX1_ready_21
  · refine xn_if_ne (tgt := 11) hC (by omega) dX1_ready_6 (by decide) (fun c => absurd c (by decide)) (fun _ => ?_)
    refine lv_iconst (v := nI 0) hC.1 hC.2.1 dX1_ready_9 (by decide) ?_
    exact cx_zret hC hr hk hw (by decide) ⟨⟨rfl, h01⟩, Or.inr ⟨hq, rfl⟩⟩ dX1_ready_10
set_option maxHeartbeats 4000000 in
set_option maxRecDepth 100000 in
/-- asked for an element -/
theorem m_element (l : Launch)  {D : sg_D} {x y : Int32} (hD : sg_Ok D) : cx_Mi l yX1_element cX1_element 3 (some .int) ({ frames := 5, cells := 0, slots := 0, locals := 116 }) mW mT [.int x, .int y] (mSt D) (fun _ r' u' => mSt D u' ∧ sg_El D x y r') := by
  refine cx_Mi.of (by decide) (fun _ => Nat.le_of_ble_eq_true rfl) ?_
  intro p e s m below meth c Dg ad ct A u ls hu hC hml hr hk hw hl
  obtain ⟨kd, da, db, hs, vl, pa, pb⟩ := u
  obtain ⟨rfl, h01⟩ := hu
  have hC : cx_C p m c cX1_element s _ RX1 := hC
  have hl : lv_has ls 3 [(0, .ref (ad 0)), (1, .int x), (2, .int y)] := hl
  refine lv_aload_n hC.1 hC.2.1 dX1_element_0 rfl (lv_at hl 0 rfl) ?_
  refine lv_iload_n hC.1 hC.2.1 dX1_element_1 rfl (lv_at hl 1 rfl) ?_
  refine lv_iload_n hC.1 hC.2.1 dX1_element_2 rfl (lv_at hl 2 rfl) ?_
  refine cx_calli (ci := 1) (rest := []) (m_asked l (x := x) (y := y)) hC hml hl.1 hw rfl (cwV 2 hC.2.2.2 (lw_V q240 q242 qs20 q30 q243) rfl rfl rfl (by decide +kernel) ⟨Nat.le_of_ble_eq_true rfl, Nat.le_of_ble_eq_true rfl⟩) rfl rfl rfl rfl (Nat.le_of_ble_eq_true rfl) dX1_element_3 ⟨Nat.zero_le _, Nat.zero_le _⟩ (fun r u' H locs hp hw => ?_)
  rcases hp with ⟨rfl, rfl, hq⟩ | ⟨rfl, rfl, hq⟩
  · obtain ⟨⟨i, hi, rfl⟩, ⟨j, hj, rfl⟩⟩ := hq
    refine xn_if_ne (tgt := 11) hC (by omega) dX1_element_6 (by decide) (fun _ => ?_) (fun c => absurd c (by decide))
    refine lv_aload_n hC.1 hC.2.1 dX1_element_11 rfl (lv_at hl 0 rfl) ?_
    refine cx_callv (ci := 1) (rest := []) (m_fill l hD) hC hml hl.1 hw rfl (cwV 0 hC.2.2.2 (lw_V q244 q246 qs21 q30 q247) rfl rfl rfl (by decide +kernel) ⟨Nat.le_of_ble_eq_true rfl, Nat.le_of_ble_eq_true rfl⟩) rfl rfl rfl rfl (Nat.le_of_ble_eq_true rfl) dX1_element_12 ⟨Nat.zero_le _, Nat.zero_le _⟩ (fun u' H locs hp hw => ?_)
    obtain ⟨hs', vl', pa', pb', rfl, h01', hFl⟩ := hp
    refine lv_aload_n hC.1 hC.2.1 dX1_element_15 rfl (lv_at hl 0 rfl) ?_
    refine lv_iload_n hC.1 hC.2.1 dX1_element_16 rfl (lv_at hl 1 rfl) ?_
    refine lv_iload_n hC.1 hC.2.1 dX1_element_17 rfl (lv_at hl 2 rfl) ?_
    refine cx_calli (ci := 1) (rest := []) (m_hasAt l (x := i) (k := j) h01' (by omega) (by omega)) hC hml hl.1 hw rfl (cwV 2 hC.2.2.2 (lw_V q256 q258 qs24 q30 q259) rfl rfl rfl (by decide +kernel) ⟨Nat.le_of_ble_eq_true rfl, Nat.le_of_ble_eq_true rfl⟩) rfl rfl rfl rfl (Nat.le_of_ble_eq_true rfl) dX1_element_18 ⟨Nat.zero_le _, Nat.zero_le _⟩ (fun r u' H locs hp hw => ?_)
    rcases hp with ⟨rfl, rfl, h1⟩ | ⟨rfl, rfl, h1⟩
    · refine xn_if_eq (tgt := 33) hC (by omega) dX1_element_21 (by decide) (fun c => absurd c (by decide)) (fun _ => ?_)
      refine lv_aload_n hC.1 hC.2.1 dX1_element_24 rfl (lv_at hl 0 rfl) ?_
      refine lv_iload_n hC.1 hC.2.1 dX1_element_25 rfl (lv_at hl 1 rfl) ?_
      refine lv_iload_n hC.1 hC.2.1 dX1_element_26 rfl (lv_at hl 2 rfl) ?_
      refine cx_calli (ci := 1) (rest := []) (m_at l (x := i) (k := j) (by omega) (by omega)) hC hml hl.1 hw rfl (cwV 2 hC.2.2.2 (lw_V q264 q266 qs26 q30 q267) rfl rfl rfl (by decide +kernel) ⟨Nat.le_of_ble_eq_true rfl, Nat.le_of_ble_eq_true rfl⟩) rfl rfl rfl rfl (Nat.le_of_ble_eq_true rfl) dX1_element_27 ⟨Nat.zero_le _, Nat.zero_le _⟩ (fun r u' H locs hp hw => ?_)
      obtain ⟨rfl, rfl⟩ := hp
      refine lv_goto (tgt := 34) hC.1 hC.2.1 dX1_element_30 (by decide) ?_
      exact cx_iret hC hr hk hw ⟨⟨rfl, h01'⟩, Or.inl ⟨i, j, hi, hj, rfl, rfl, by rw [sg_vs hD hFl hi hj h1]; rfl⟩⟩ dX1_element_34
    · refine xn_if_eq (tgt := 33) hC (by omega) dX1_element_21 (by decide) (fun _ => ?_) (fun c => absurd c (by decide))
      refine lv_iconst (v := nI 0) hC.1 hC.2.1 dX1_element_33 (by decide) ?_
      exact cx_iret hC hr hk hw ⟨⟨rfl, h01'⟩, Or.inl ⟨i, j, hi, hj, rfl, rfl, by rw [sg_vn hD hFl hi hj h1]; rfl⟩⟩ dX1_element_34
  · refine xn_if_ne (tgt := 11) hC (by omega) dX1_element_6 (by decide) (fun c => absurd c (by decide)) (fun _ => ?_)
    refine lv_iconst (v := nI 0) hC.1 hC.2.1 dX1_element_9 (by decide) ?_
    exact cx_iret hC hr hk hw ⟨⟨rfl, h01⟩, Or.inr ⟨hq, rfl⟩⟩ dX1_element_10
set_option maxHeartbeats 4000000 in
set_option maxRecDepth 100000 in
/-- how many elements there are -/
theorem m_known (l : Launch)  {D : sg_D} {x : Int32} (hD : sg_Ok D) : cx_Mi l yX1_known cX1_known 4 (some .int) ({ frames := 5, cells := 0, slots := 0, locals := 116 }) mW mT [.int x] (mSt D) (fun _ r' u' => mSt D u' ∧ sg_Kn D x r') := by
  refine cx_Mi.of (by decide) (fun _ => Nat.le_of_ble_eq_true rfl) ?_
  intro p e s m below meth c Dg ad ct A u ls hu hC hml hr hk hw hl
  obtain ⟨kd, da, db, hs, vl, pa, pb⟩ := u
  obtain ⟨rfl, h01⟩ := hu
  have hC : cx_C p m c cX1_known s _ RX1 := hC
  have hl : lv_has ls 4 [(0, .ref (ad 0)), (1, .int x)] := hl
  refine lv_aload_n hC.1 hC.2.1 dX1_known_0 rfl (lv_at hl 0 rfl) ?_
  refine lv_iload_n hC.1 hC.2.1 dX1_known_1 rfl (lv_at hl 1 rfl) ?_
  refine cx_calli (ci := 1) (rest := []) (m_isSequence l (x := x) ) hC hml hl.1 hw rfl (cwV 1 hC.2.2.2 (lw_V q224 q226 qs17 q30 q227) rfl rfl rfl (by decide +kernel) ⟨Nat.le_of_ble_eq_true rfl, Nat.le_of_ble_eq_true rfl⟩) rfl rfl rfl rfl (Nat.le_of_ble_eq_true rfl) dX1_known_2 ⟨Nat.zero_le _, Nat.zero_le _⟩ (fun r u' H locs hp hw => ?_)
  rcases hp with ⟨rfl, rfl, hq1⟩ | ⟨rfl, rfl, hq1⟩
  · obtain ⟨i, hi, rfl⟩ := hq1
    refine xn_if_ne (tgt := 10) hC (by omega) dX1_known_5 (by decide) (fun _ => ?_) (fun c => absurd c (by decide))
    refine lv_aload_n hC.1 hC.2.1 dX1_known_10 rfl (lv_at hl 0 rfl) ?_
    refine cx_callv (ci := 1) (rest := []) (m_fill l hD) hC hml hl.1 hw rfl (cwV 0 hC.2.2.2 (lw_V q244 q246 qs21 q30 q247) rfl rfl rfl (by decide +kernel) ⟨Nat.le_of_ble_eq_true rfl, Nat.le_of_ble_eq_true rfl⟩) rfl rfl rfl rfl (Nat.le_of_ble_eq_true rfl) dX1_known_11 ⟨Nat.zero_le _, Nat.zero_le _⟩ (fun u' H locs hp hw => ?_)
    obtain ⟨hs', vl', pa', pb', rfl, h01', hFl⟩ := hp
    refine lv_iconst (v := nI 0) hC.1 hC.2.1 dX1_known_14 (by decide) ?_
    refine lv_istore_n (lv' := [(2, .int (nI 0)), (0, .ref (ad 0)), (1, .int (nI i))]) hC.1 hC.2.1 dX1_known_15 rfl hl (by decide) rfl (fun ls hl => ?_)
    refine lv_iconst (v := nI 0) hC.1 hC.2.1 dX1_known_16 (by decide) ?_
    refine lv_istore_n (lv' := [(3, .int (nI 0)), (2, .int (nI 0)), (0, .ref (ad 0)), (1, .int (nI i))]) hC.1 hC.2.1 dX1_known_17 rfl hl (by decide) rfl (fun ls hl => ?_)
    have loop : ∀ (n : Nat) (k t : Nat), k ≤ 16 → 17 ≤ k + n → t = sg_kn (sg_V (kd, da, db) i) k → ∀ (H : Heap) (locs : List Loc) (ls : Array Slot), cx_W Dg (mT ct) A s s.heap H locs (mW ad ct (kd, da, db, hs', vl', pa', pb')) → lv_has ls 4 [(3, .int (nI k)), (2, .int (nI t)), (1, .int (nI i)), (0, .ref (ad 0))] → W p l e ({ frames := 5, cells := 0, slots := 0, locals := 116 }) s m ([.ref (ad 0), .int (nI i)] : List Value).toArray below meth c H locs 0 0 (MQ below (va_Qi (fun r' u' => mSt (kd, da, db) u' ∧ sg_Kn (kd, da, db) (nI i) r') (cx_B Dg (mT ct) (mW ad ct) A) A) ([.ref (ad 0), .int (nI i)] : List Value).toArray s 0 0 A) (F0 m 18 ls []) := by
      intro n
      induction n with
      | zero =>
        intro k t hk16 hn ht
        exact absurd hn (by omega)
      | succ n ih =>
        intro k t hk16 hn ht H locs ls hw hl
        refine lv_iload_n hC.1 hC.2.1 dX1_known_18 rfl (lv_at hl 0 rfl) ?_
        refine lv_bipush (v := nI 15) hC.1 hC.2.1 dX1_known_19 (by decide) ?_
        refine xn_icmp_gt (tgt := 42) hC (by omega) (by omega) dX1_known_21 (by decide) (fun c1 => ?_) (fun c1 => ?_)
        · refine lv_iload_n hC.1 hC.2.1 dX1_known_42 rfl (lv_at hl 1 rfl) ?_
          exact cx_iret hC hr hk hw ⟨⟨rfl, h01'⟩, Or.inl ⟨i, hi, rfl, by rw [ht, show k = 16 by omega]⟩⟩ dX1_known_43
        · refine lv_aload_n hC.1 hC.2.1 dX1_known_24 rfl (lv_at hl 3 rfl) ?_
          refine lv_iload_n hC.1 hC.2.1 dX1_known_25 rfl (lv_at hl 2 rfl) ?_
          refine lv_iload_n hC.1 hC.2.1 dX1_known_26 rfl (lv_at hl 0 rfl) ?_
          refine cx_calli (ci := 1) (rest := []) (m_hasAt l (x := i) (k := k) h01' (by omega) (by omega)) hC hml hl.1 hw rfl (cwV 2 hC.2.2.2 (lw_V q256 q258 qs24 q30 q259) rfl rfl rfl (by decide +kernel) ⟨Nat.le_of_ble_eq_true rfl, Nat.le_of_ble_eq_true rfl⟩) rfl rfl rfl rfl (Nat.le_of_ble_eq_true rfl) dX1_known_27 ⟨Nat.zero_le _, Nat.zero_le _⟩ (fun r u' H locs hp hw => ?_)
          rcases hp with ⟨rfl, rfl, h2⟩ | ⟨rfl, rfl, h2⟩
          · refine xn_if_eq (tgt := 36) hC (by omega) dX1_known_30 (by decide) (fun c => absurd c (by decide)) (fun _ => ?_)
            refine lv_iinc (v := nI (t + 1)) (lv' := [(2, .int (nI (t + 1))), (3, .int (nI k)), (1, .int (nI i)), (0, .ref (ad 0))]) hC.1 hC.2.1 dX1_known_33 hl (k := 1) rfl (xn_inc _) (by decide) rfl (fun ls hl => ?_)
            refine lv_iinc (v := nI (k + 1)) (lv' := [(3, .int (nI (k + 1))), (2, .int (nI (t + 1))), (1, .int (nI i)), (0, .ref (ad 0))]) hC.1 hC.2.1 dX1_known_36 hl (k := 1) rfl (xn_inc _) (by decide) rfl (fun ls hl => ?_)
            refine lv_goto (tgt := 18) hC.1 hC.2.1 dX1_known_39 (by decide) ?_
            exact ih (k + 1) (t + 1) (by omega) (by omega) (by unfold sg_kn; rw [if_neg (by rw [sg_vs hD hFl hi (by omega) h2]; simp), ht]) H locs ls hw (lv_sub hl [0, 1, 2, 3] rfl)
          · refine xn_if_eq (tgt := 36) hC (by omega) dX1_known_30 (by decide) (fun _ => ?_) (fun c => absurd c (by decide))
            refine lv_iinc (v := nI (k + 1)) (lv' := [(3, .int (nI (k + 1))), (2, .int (nI t)), (1, .int (nI i)), (0, .ref (ad 0))]) hC.1 hC.2.1 dX1_known_36 hl (k := 0) rfl (xn_inc _) (by decide) rfl (fun ls hl => ?_)
            refine lv_goto (tgt := 18) hC.1 hC.2.1 dX1_known_39 (by decide) ?_
            exact ih (k + 1) t (by omega) (by omega) (by unfold sg_kn; rw [if_pos (sg_vn hD hFl hi (by omega) h2), ht, Nat.add_zero]) H locs ls hw (lv_sub hl [0, 1, 2, 3] rfl)
    exact loop 17 0 0 (by omega) (by omega) rfl _ _ _ hw (lv_sub hl [0, 1, 3, 2] rfl)
  · refine xn_if_ne (tgt := 10) hC (by omega) dX1_known_5 (by decide) (fun c => absurd c (by decide)) (fun _ => ?_)
    refine lv_iconst (v := (-1)) hC.1 hC.2.1 dX1_known_8 (by decide) ?_
    exact cx_iret hC hr hk hw ⟨⟨rfl, h01⟩, Or.inr ⟨hq1, rfl⟩⟩ dX1_known_9
set_option maxHeartbeats 4000000 in
set_option maxRecDepth 100000 in
/-- the first element above v -/
theorem m_firstAbove (l : Launch)  {D : sg_D} {x v : Int32} (hD : sg_Ok D) : cx_Mi l yX1_firstAbove cX1_firstAbove 4 (some .int) ({ frames := 5, cells := 0, slots := 0, locals := 116 }) mW mT [.int x, .int v] (mSt D) (fun _ r' u' => mSt D u' ∧ sg_Fa D x v r') := by
  refine cx_Mi.of (by decide) (fun _ => Nat.le_of_ble_eq_true rfl) ?_
  intro p e s m below meth c Dg ad ct A u ls hu hC hml hr hk hw hl
  obtain ⟨kd, da, db, hs, vl, pa, pb⟩ := u
  obtain ⟨rfl, h01⟩ := hu
  have hC : cx_C p m c cX1_firstAbove s _ RX1 := hC
  have hl : lv_has ls 4 [(0, .ref (ad 0)), (1, .int x), (2, .int v)] := hl
  refine lv_aload_n hC.1 hC.2.1 dX1_firstAbove_0 rfl (lv_at hl 0 rfl) ?_
  refine lv_iload_n hC.1 hC.2.1 dX1_firstAbove_1 rfl (lv_at hl 1 rfl) ?_
  refine cx_calli (ci := 1) (rest := []) (m_isSequence l (x := x) ) hC hml hl.1 hw rfl (cwV 1 hC.2.2.2 (lw_V q224 q226 qs17 q30 q227) rfl rfl rfl (by decide +kernel) ⟨Nat.le_of_ble_eq_true rfl, Nat.le_of_ble_eq_true rfl⟩) rfl rfl rfl rfl (Nat.le_of_ble_eq_true rfl) dX1_firstAbove_2 ⟨Nat.zero_le _, Nat.zero_le _⟩ (fun r u' H locs hp hw => ?_)
  rcases hp with ⟨rfl, rfl, hq1⟩ | ⟨rfl, rfl, hq1⟩
  · obtain ⟨i, hi, rfl⟩ := hq1
    refine xn_if_ne (tgt := 10) hC (by omega) dX1_firstAbove_5 (by decide) (fun _ => ?_) (fun c => absurd c (by decide))
    refine lv_aload_n hC.1 hC.2.1 dX1_firstAbove_10 rfl (lv_at hl 0 rfl) ?_
    refine cx_callv (ci := 1) (rest := []) (m_fill l hD) hC hml hl.1 hw rfl (cwV 0 hC.2.2.2 (lw_V q244 q246 qs21 q30 q247) rfl rfl rfl (by decide +kernel) ⟨Nat.le_of_ble_eq_true rfl, Nat.le_of_ble_eq_true rfl⟩) rfl rfl rfl rfl (Nat.le_of_ble_eq_true rfl) dX1_firstAbove_11 ⟨Nat.zero_le _, Nat.zero_le _⟩ (fun u' H locs hp hw => ?_)
    obtain ⟨hs', vl', pa', pb', rfl, h01', hFl⟩ := hp
    refine lv_iconst (v := nI 0) hC.1 hC.2.1 dX1_firstAbove_14 (by decide) ?_
    refine lv_istore_n (lv' := [(3, .int (nI 0)), (0, .ref (ad 0)), (1, .int (nI i)), (2, .int v)]) hC.1 hC.2.1 dX1_firstAbove_15 rfl hl (by decide) rfl (fun ls hl => ?_)
    have loop : ∀ (n : Nat) (k : Nat), k ≤ 16 → 17 ≤ k + n → (∀ q, q < k → ¬ sg_above (sg_V (kd, da, db) i) v q) → ∀ (H : Heap) (locs : List Loc) (ls : Array Slot), cx_W Dg (mT ct) A s s.heap H locs (mW ad ct (kd, da, db, hs', vl', pa', pb')) → lv_has ls 4 [(3, .int (nI k)), (2, .int v), (1, .int (nI i)), (0, .ref (ad 0))] → W p l e ({ frames := 5, cells := 0, slots := 0, locals := 116 }) s m ([.ref (ad 0), .int (nI i), .int v] : List Value).toArray below meth c H locs 0 0 (MQ below (va_Qi (fun r' u' => mSt (kd, da, db) u' ∧ sg_Fa (kd, da, db) (nI i) v r') (cx_B Dg (mT ct) (mW ad ct) A) A) ([.ref (ad 0), .int (nI i), .int v] : List Value).toArray s 0 0 A) (F0 m 16 ls []) := by
      intro n
      induction n with
      | zero =>
        intro k hk16 hn hV
        exact absurd hn (by omega)
      | succ n ih =>
        intro k hk16 hn hV H locs ls hw hl
        refine lv_iload_n hC.1 hC.2.1 dX1_firstAbove_16 rfl (lv_at hl 0 rfl) ?_
        refine lv_bipush (v := nI 15) hC.1 hC.2.1 dX1_firstAbove_17 (by decide) ?_
        refine xn_icmp_gt (tgt := 49) hC (by omega) (by omega) dX1_firstAbove_19 (by decide) (fun c1 => ?_) (fun c1 => ?_)
        · refine lv_bipush (v := (-2)) hC.1 hC.2.1 dX1_firstAbove_49 (by decide) ?_
          exact cx_iret hC hr hk hw ⟨⟨rfl, h01'⟩, Or.inl ⟨i, hi, rfl, Or.inr ⟨rfl, fun q hq => hV q (by omega)⟩⟩⟩ dX1_firstAbove_51
        · refine lv_aload_n hC.1 hC.2.1 dX1_firstAbove_22 rfl (lv_at hl 3 rfl) ?_
          refine lv_iload_n hC.1 hC.2.1 dX1_firstAbove_23 rfl (lv_at hl 2 rfl) ?_
          refine lv_iload_n hC.1 hC.2.1 dX1_firstAbove_24 rfl (lv_at hl 0 rfl) ?_
          refine cx_calli (ci := 1) (rest := []) (m_hasAt l (x := i) (k := k) h01' (by omega) (by omega)) hC hml hl.1 hw rfl (cwV 2 hC.2.2.2 (lw_V q256 q258 qs24 q30 q259) rfl rfl rfl (by decide +kernel) ⟨Nat.le_of_ble_eq_true rfl, Nat.le_of_ble_eq_true rfl⟩) rfl rfl rfl rfl (Nat.le_of_ble_eq_true rfl) dX1_firstAbove_25 ⟨Nat.zero_le _, Nat.zero_le _⟩ (fun r u' H locs hp hw => ?_)
          rcases hp with ⟨rfl, rfl, h2⟩ | ⟨rfl, rfl, h2⟩
          · refine xn_if_eq (tgt := 43) hC (by omega) dX1_firstAbove_28 (by decide) (fun c => absurd c (by decide)) (fun _ => ?_)
            refine lv_aload_n hC.1 hC.2.1 dX1_firstAbove_31 rfl (lv_at hl 3 rfl) ?_
            refine lv_iload_n hC.1 hC.2.1 dX1_firstAbove_32 rfl (lv_at hl 2 rfl) ?_
            refine lv_iload_n hC.1 hC.2.1 dX1_firstAbove_33 rfl (lv_at hl 0 rfl) ?_
            refine cx_calli (ci := 1) (rest := []) (m_at l (x := i) (k := k) (by omega) (by omega)) hC hml hl.1 hw rfl (cwV 2 hC.2.2.2 (lw_V q264 q266 qs26 q30 q267) rfl rfl rfl (by decide +kernel) ⟨Nat.le_of_ble_eq_true rfl, Nat.le_of_ble_eq_true rfl⟩) rfl rfl rfl rfl (Nat.le_of_ble_eq_true rfl) dX1_firstAbove_34 ⟨Nat.zero_le _, Nat.zero_le _⟩ (fun r u' H locs hp hw => ?_)
            obtain ⟨rfl, rfl⟩ := hp
            refine lv_iload_n hC.1 hC.2.1 dX1_firstAbove_37 rfl (lv_at hl 1 rfl) ?_
            refine lv_icmp_le (tgt := 43) hC.1 hC.2.1 dX1_firstAbove_38 (by decide) (fun e2 => ?_) (fun e2 => ?_)
            · refine lv_iinc (v := nI (k + 1)) (lv' := [(3, .int (nI (k + 1))), (2, .int v), (1, .int (nI i)), (0, .ref (ad 0))]) hC.1 hC.2.1 dX1_firstAbove_43 hl (k := 0) rfl (xn_inc _) (by decide) rfl (fun ls hl => ?_)
              refine lv_goto (tgt := 16) hC.1 hC.2.1 dX1_firstAbove_46 (by decide) ?_
              exact ih (k + 1) (by omega) (by omega) (fun q hq => by rcases Nat.lt_or_ge q k with z | z; exact hV q z; rw [show q = k by omega]; exact sg_ab_no (sg_vs hD hFl hi (by omega) h2) e2) H locs ls hw (lv_sub hl [0, 1, 2, 3] rfl)
            · refine lv_iload_n hC.1 hC.2.1 dX1_firstAbove_41 rfl (lv_at hl 0 rfl) ?_
              exact cx_iret hC hr hk hw ⟨⟨rfl, h01'⟩, Or.inl ⟨i, hi, rfl, Or.inl ⟨k, by omega, rfl, ⟨_, sg_vs hD hFl hi (by omega) h2, Int32.not_le.mp e2⟩, hV⟩⟩⟩ dX1_firstAbove_42
          · refine xn_if_eq (tgt := 43) hC (by omega) dX1_firstAbove_28 (by decide) (fun _ => ?_) (fun c => absurd c (by decide))
            refine lv_iinc (v := nI (k + 1)) (lv' := [(3, .int (nI (k + 1))), (2, .int v), (1, .int (nI i)), (0, .ref (ad 0))]) hC.1 hC.2.1 dX1_firstAbove_43 hl (k := 0) rfl (xn_inc _) (by decide) rfl (fun ls hl => ?_)
            refine lv_goto (tgt := 16) hC.1 hC.2.1 dX1_firstAbove_46 (by decide) ?_
            exact ih (k + 1) (by omega) (by omega) (fun q hq => by rcases Nat.lt_or_ge q k with z | z; exact hV q z; rw [show q = k by omega]; exact sg_ab_none (sg_vn hD hFl hi (by omega) h2)) H locs ls hw (lv_sub hl [0, 1, 2, 3] rfl)
    exact loop 17 0 (by omega) (by omega) (fun q hq => absurd hq (by omega)) _ _ _ hw (lv_sub hl [0, 3, 2, 1] rfl)
  · refine xn_if_ne (tgt := 10) hC (by omega) dX1_firstAbove_5 (by decide) (fun c => absurd c (by decide)) (fun _ => ?_)
    refine lv_iconst (v := (-1)) hC.1 hC.2.1 dX1_firstAbove_8 (by decide) ?_
    exact cx_iret hC hr hk hw ⟨⟨rfl, h01⟩, Or.inr ⟨hq1, rfl⟩⟩ dX1_firstAbove_9
set_option maxHeartbeats 4000000 in
set_option maxRecDepth 100000 in
/-- how many elements are the same -/
theorem m_agree (l : Launch)  {D : sg_D} {x y : Int32} (hD : sg_Ok D) : cx_Mi l yX1_agree cX1_agree 5 (some .int) ({ frames := 5, cells := 0, slots := 0, locals := 116 }) mW mT [.int x, .int y] (mSt D) (fun _ r' u' => mSt D u' ∧ sg_Ag D x y r') := by
  refine cx_Mi.of (by decide) (fun _ => Nat.le_of_ble_eq_true rfl) ?_
  intro p e s m below meth c Dg ad ct A u ls hu hC hml hr hk hw hl
  obtain ⟨kd, da, db, hs, vl, pa, pb⟩ := u
  obtain ⟨rfl, h01⟩ := hu
  have hC : cx_C p m c cX1_agree s _ RX1 := hC
  have hl : lv_has ls 5 [(0, .ref (ad 0)), (1, .int x), (2, .int y)] := hl
  refine lv_aload_n hC.1 hC.2.1 dX1_agree_0 rfl (lv_at hl 0 rfl) ?_
  refine lv_iload_n hC.1 hC.2.1 dX1_agree_1 rfl (lv_at hl 1 rfl) ?_
  refine cx_calli (ci := 1) (rest := []) (m_isSequence l (x := x) ) hC hml hl.1 hw rfl (cwV 1 hC.2.2.2 (lw_V q224 q226 qs17 q30 q227) rfl rfl rfl (by decide +kernel) ⟨Nat.le_of_ble_eq_true rfl, Nat.le_of_ble_eq_true rfl⟩) rfl rfl rfl rfl (Nat.le_of_ble_eq_true rfl) dX1_agree_2 ⟨Nat.zero_le _, Nat.zero_le _⟩ (fun r u' H locs hp hw => ?_)
  rcases hp with ⟨rfl, rfl, hq1⟩ | ⟨rfl, rfl, hq1⟩
  · obtain ⟨i, hi, rfl⟩ := hq1
    refine xn_if_eq (tgt := 16) hC (by omega) dX1_agree_5 (by decide) (fun c => absurd c (by decide)) (fun _ => ?_)
    refine lv_aload_n hC.1 hC.2.1 dX1_agree_8 rfl (lv_at hl 0 rfl) ?_
    refine lv_iload_n hC.1 hC.2.1 dX1_agree_9 rfl (lv_at hl 2 rfl) ?_
    refine cx_calli (ci := 1) (rest := []) (m_isSequence l (x := y) ) hC hml hl.1 hw rfl (cwV 1 hC.2.2.2 (lw_V q224 q226 qs17 q30 q227) rfl rfl rfl (by decide +kernel) ⟨Nat.le_of_ble_eq_true rfl, Nat.le_of_ble_eq_true rfl⟩) rfl rfl rfl rfl (Nat.le_of_ble_eq_true rfl) dX1_agree_10 ⟨Nat.zero_le _, Nat.zero_le _⟩ (fun r u' H locs hp hw => ?_)
    rcases hp with ⟨rfl, rfl, hq2⟩ | ⟨rfl, rfl, hq2⟩
    · obtain ⟨j, hj, rfl⟩ := hq2
      refine xn_if_ne (tgt := 18) hC (by omega) dX1_agree_13 (by decide) (fun _ => ?_) (fun c => absurd c (by decide))
      refine lv_aload_n hC.1 hC.2.1 dX1_agree_18 rfl (lv_at hl 0 rfl) ?_
      refine cx_callv (ci := 1) (rest := []) (m_fill l hD) hC hml hl.1 hw rfl (cwV 0 hC.2.2.2 (lw_V q244 q246 qs21 q30 q247) rfl rfl rfl (by decide +kernel) ⟨Nat.le_of_ble_eq_true rfl, Nat.le_of_ble_eq_true rfl⟩) rfl rfl rfl rfl (Nat.le_of_ble_eq_true rfl) dX1_agree_19 ⟨Nat.zero_le _, Nat.zero_le _⟩ (fun u' H locs hp hw => ?_)
      obtain ⟨hs', vl', pa', pb', rfl, h01', hFl⟩ := hp
      refine lv_iconst (v := nI 0) hC.1 hC.2.1 dX1_agree_22 (by decide) ?_
      refine lv_istore_n (lv' := [(3, .int (nI 0)), (0, .ref (ad 0)), (1, .int (nI i)), (2, .int (nI j))]) hC.1 hC.2.1 dX1_agree_23 rfl hl (by decide) rfl (fun ls hl => ?_)
      refine lv_iconst (v := nI 0) hC.1 hC.2.1 dX1_agree_24 (by decide) ?_
      refine lv_istore (lv' := [(4, .int (nI 0)), (3, .int (nI 0)), (0, .ref (ad 0)), (1, .int (nI i)), (2, .int (nI j))]) hC.1 hC.2.1 dX1_agree_25 hl (by decide) rfl (fun ls hl => ?_)
      have loop : ∀ (n : Nat) (k t : Nat), k ≤ 16 → 17 ≤ k + n → t = sg_ag (sg_V (kd, da, db) i) (sg_V (kd, da, db) j) k → ∀ (H : Heap) (locs : List Loc) (ls : Array Slot), cx_W Dg (mT ct) A s s.heap H locs (mW ad ct (kd, da, db, hs', vl', pa', pb')) → lv_has ls 5 [(4, .int (nI k)), (3, .int (nI t)), (2, .int (nI j)), (1, .int (nI i)), (0, .ref (ad 0))] → W p l e ({ frames := 5, cells := 0, slots := 0, locals := 116 }) s m ([.ref (ad 0), .int (nI i), .int (nI j)] : List Value).toArray below meth c H locs 0 0 (MQ below (va_Qi (fun r' u' => mSt (kd, da, db) u' ∧ sg_Ag (kd, da, db) (nI i) (nI j) r') (cx_B Dg (mT ct) (mW ad ct) A) A) ([.ref (ad 0), .int (nI i), .int (nI j)] : List Value).toArray s 0 0 A) (F0 m 27 ls []) := by
        intro n
        induction n with
        | zero =>
          intro k t hk16 hn ht
          exact absurd hn (by omega)
        | succ n ih =>
          intro k t hk16 hn ht H locs ls hw hl
          refine lv_iload hC.1 hC.2.1 dX1_agree_27 (lv_at hl 0 rfl) ?_
          refine lv_bipush (v := nI 15) hC.1 hC.2.1 dX1_agree_29 (by decide) ?_
          refine xn_icmp_gt (tgt := 80) hC (by omega) (by omega) dX1_agree_31 (by decide) (fun c1 => ?_) (fun c1 => ?_)
          · refine lv_iload_n hC.1 hC.2.1 dX1_agree_80 rfl (lv_at hl 1 rfl) ?_
            exact cx_iret hC hr hk hw ⟨⟨rfl, h01'⟩, Or.inl ⟨i, j, hi, hj, rfl, rfl, by rw [ht, show k = 16 by omega]⟩⟩ dX1_agree_81
          · refine lv_aload_n hC.1 hC.2.1 dX1_agree_34 rfl (lv_at hl 4 rfl) ?_
            refine lv_iload_n hC.1 hC.2.1 dX1_agree_35 rfl (lv_at hl 3 rfl) ?_
            refine lv_iload hC.1 hC.2.1 dX1_agree_36 (lv_at hl 0 rfl) ?_
            refine cx_calli (ci := 1) (rest := []) (m_hasAt l (x := i) (k := k) h01' (by omega) (by omega)) hC hml hl.1 hw rfl (cwV 2 hC.2.2.2 (lw_V q256 q258 qs24 q30 q259) rfl rfl rfl (by decide +kernel) ⟨Nat.le_of_ble_eq_true rfl, Nat.le_of_ble_eq_true rfl⟩) rfl rfl rfl rfl (Nat.le_of_ble_eq_true rfl) dX1_agree_38 ⟨Nat.zero_le _, Nat.zero_le _⟩ (fun r u' H locs hp hw => ?_)
            rcases hp with ⟨rfl, rfl, h3⟩ | ⟨rfl, rfl, h3⟩
            · refine xn_if_eq (tgt := 74) hC (by omega) dX1_agree_41 (by decide) (fun c => absurd c (by decide)) (fun _ => ?_)
              refine lv_aload_n hC.1 hC.2.1 dX1_agree_44 rfl (lv_at hl 4 rfl) ?_
              refine lv_iload_n hC.1 hC.2.1 dX1_agree_45 rfl (lv_at hl 2 rfl) ?_
              refine lv_iload hC.1 hC.2.1 dX1_agree_46 (lv_at hl 0 rfl) ?_
              refine cx_calli (ci := 1) (rest := []) (m_hasAt l (x := j) (k := k) h01' (by omega) (by omega)) hC hml hl.1 hw rfl (cwV 2 hC.2.2.2 (lw_V q256 q258 qs24 q30 q259) rfl rfl rfl (by decide +kernel) ⟨Nat.le_of_ble_eq_true rfl, Nat.le_of_ble_eq_true rfl⟩) rfl rfl rfl rfl (Nat.le_of_ble_eq_true rfl) dX1_agree_48 ⟨Nat.zero_le _, Nat.zero_le _⟩ (fun r u' H locs hp hw => ?_)
              rcases hp with ⟨rfl, rfl, h4⟩ | ⟨rfl, rfl, h4⟩
              · refine xn_if_eq (tgt := 74) hC (by omega) dX1_agree_51 (by decide) (fun c => absurd c (by decide)) (fun _ => ?_)
                refine lv_aload_n hC.1 hC.2.1 dX1_agree_54 rfl (lv_at hl 4 rfl) ?_
                refine lv_iload_n hC.1 hC.2.1 dX1_agree_55 rfl (lv_at hl 3 rfl) ?_
                refine lv_iload hC.1 hC.2.1 dX1_agree_56 (lv_at hl 0 rfl) ?_
                refine cx_calli (ci := 1) (rest := []) (m_at l (x := i) (k := k) (by omega) (by omega)) hC hml hl.1 hw rfl (cwV 2 hC.2.2.2 (lw_V q264 q266 qs26 q30 q267) rfl rfl rfl (by decide +kernel) ⟨Nat.le_of_ble_eq_true rfl, Nat.le_of_ble_eq_true rfl⟩) rfl rfl rfl rfl (Nat.le_of_ble_eq_true rfl) dX1_agree_58 ⟨Nat.zero_le _, Nat.zero_le _⟩ (fun r u' H locs hp hw => ?_)
                obtain ⟨rfl, rfl⟩ := hp
                refine lv_aload_n hC.1 hC.2.1 dX1_agree_61 rfl (lv_at hl 4 rfl) ?_
                refine lv_iload_n hC.1 hC.2.1 dX1_agree_62 rfl (lv_at hl 2 rfl) ?_
                refine lv_iload hC.1 hC.2.1 dX1_agree_63 (lv_at hl 0 rfl) ?_
                refine cx_calli (ci := 1) (rest := [.int (vl' (21 * i + k))]) (m_at l (x := j) (k := k) (by omega) (by omega)) hC hml hl.1 hw rfl (cwV 2 hC.2.2.2 (lw_V q264 q266 qs26 q30 q267) rfl rfl rfl (by decide +kernel) ⟨Nat.le_of_ble_eq_true rfl, Nat.le_of_ble_eq_true rfl⟩) rfl rfl rfl rfl (Nat.le_of_ble_eq_true rfl) dX1_agree_65 ⟨Nat.zero_le _, Nat.zero_le _⟩ (fun r u' H locs hp hw => ?_)
                obtain ⟨rfl, rfl⟩ := hp
                refine lv_icmp_ne (tgt := 74) hC.1 hC.2.1 dX1_agree_68 (by decide) (fun e2 => ?_) (fun e2 => ?_)
                · refine lv_iinc (v := nI (k + 1)) (lv' := [(4, .int (nI (k + 1))), (3, .int (nI t)), (2, .int (nI j)), (1, .int (nI i)), (0, .ref (ad 0))]) hC.1 hC.2.1 dX1_agree_74 hl (k := 0) rfl (xn_inc _) (by decide) rfl (fun ls hl => ?_)
                  refine lv_goto (tgt := 27) hC.1 hC.2.1 dX1_agree_77 (by decide) ?_
                  exact ih (k + 1) t (by omega) (by omega) (by unfold sg_ag; rw [if_neg (by rw [sg_vs hD hFl hi (by omega) h3, sg_vs hD hFl hj (by omega) h4]; rintro ⟨-, z⟩; exact e2 (Option.some.inj z)), ht, Nat.add_zero]) H locs ls hw (lv_sub hl [0, 1, 2, 3, 4] rfl)
                · refine lv_iinc (v := nI (t + 1)) (lv' := [(3, .int (nI (t + 1))), (4, .int (nI k)), (2, .int (nI j)), (1, .int (nI i)), (0, .ref (ad 0))]) hC.1 hC.2.1 dX1_agree_71 hl (k := 1) rfl (xn_inc _) (by decide) rfl (fun ls hl => ?_)
                  refine lv_iinc (v := nI (k + 1)) (lv' := [(4, .int (nI (k + 1))), (3, .int (nI (t + 1))), (2, .int (nI j)), (1, .int (nI i)), (0, .ref (ad 0))]) hC.1 hC.2.1 dX1_agree_74 hl (k := 1) rfl (xn_inc _) (by decide) rfl (fun ls hl => ?_)
                  refine lv_goto (tgt := 27) hC.1 hC.2.1 dX1_agree_77 (by decide) ?_
                  exact ih (k + 1) (t + 1) (by omega) (by omega) (by unfold sg_ag; rw [if_pos (by rw [sg_vs hD hFl hi (by omega) h3, sg_vs hD hFl hj (by omega) h4]; exact ⟨by simp, by rw [e2]⟩), ht]) H locs ls hw (lv_sub hl [0, 1, 2, 3, 4] rfl)
              · refine xn_if_eq (tgt := 74) hC (by omega) dX1_agree_51 (by decide) (fun _ => ?_) (fun c => absurd c (by decide))
                refine lv_iinc (v := nI (k + 1)) (lv' := [(4, .int (nI (k + 1))), (3, .int (nI t)), (2, .int (nI j)), (1, .int (nI i)), (0, .ref (ad 0))]) hC.1 hC.2.1 dX1_agree_74 hl (k := 0) rfl (xn_inc _) (by decide) rfl (fun ls hl => ?_)
                refine lv_goto (tgt := 27) hC.1 hC.2.1 dX1_agree_77 (by decide) ?_
                exact ih (k + 1) t (by omega) (by omega) (by unfold sg_ag; rw [if_neg (by rw [sg_vs hD hFl hi (by omega) h3, sg_vn hD hFl hj (by omega) h4]; simp), ht, Nat.add_zero]) H locs ls hw (lv_sub hl [0, 1, 2, 3, 4] rfl)
            · refine xn_if_eq (tgt := 74) hC (by omega) dX1_agree_41 (by decide) (fun _ => ?_) (fun c => absurd c (by decide))
              refine lv_iinc (v := nI (k + 1)) (lv' := [(4, .int (nI (k + 1))), (3, .int (nI t)), (2, .int (nI j)), (1, .int (nI i)), (0, .ref (ad 0))]) hC.1 hC.2.1 dX1_agree_74 hl (k := 0) rfl (xn_inc _) (by decide) rfl (fun ls hl => ?_)
              refine lv_goto (tgt := 27) hC.1 hC.2.1 dX1_agree_77 (by decide) ?_
              exact ih (k + 1) t (by omega) (by omega) (by unfold sg_ag; rw [if_neg (by rw [sg_vn hD hFl hi (by omega) h3]; simp), ht, Nat.add_zero]) H locs ls hw (lv_sub hl [0, 1, 2, 3, 4] rfl)
      exact loop 17 0 0 (by omega) (by omega) rfl _ _ _ hw (lv_sub hl [0, 1, 4, 3, 2] rfl)
    · refine xn_if_ne (tgt := 18) hC (by omega) dX1_agree_13 (by decide) (fun c => absurd c (by decide)) (fun _ => ?_)
      refine lv_iconst (v := (-1)) hC.1 hC.2.1 dX1_agree_16 (by decide) ?_
      exact cx_iret hC hr hk hw ⟨⟨rfl, h01⟩, Or.inr ⟨fun q => hq2 q.2, rfl⟩⟩ dX1_agree_17
  · refine xn_if_eq (tgt := 16) hC (by omega) dX1_agree_5 (by decide) (fun _ => ?_) (fun c => absurd c (by decide))
    refine lv_iconst (v := (-1)) hC.1 hC.2.1 dX1_agree_16 (by decide) ?_
    exact cx_iret hC hr hk hw ⟨⟨rfl, h01⟩, Or.inr ⟨fun q => hq1 q.1, rfl⟩⟩ dX1_agree_17
set_option maxHeartbeats 4000000 in
set_option maxRecDepth 100000 in
/-- the kind of a sequence -/
theorem m_kind (l : Launch)  {D : sg_D} {x : Int32} (hD : sg_Ok D) : cx_Mi l yX1_kind cX1_kind 2 (some .int) ({ frames := 1, cells := 0, slots := 0, locals := 21 }) mW mT [.int x] (mSt D) (fun _ r' u' => mSt D u' ∧ sg_Kd D x r') := by
  refine cx_Mi.of (by decide) (fun _ => Nat.le_of_ble_eq_true rfl) ?_
  intro p e s m below meth c Dg ad ct A u ls hu hC hml hr hk hw hl
  obtain ⟨kd, da, db, hs, vl, pa, pb⟩ := u
  obtain ⟨rfl, h01⟩ := hu
  have hC : cx_C p m c cX1_kind s _ RX1 := hC
  have hl : lv_has ls 2 [(0, .ref (ad 0)), (1, .int x)] := hl
  refine lv_aload_n hC.1 hC.2.1 dX1_kind_0 rfl (lv_at hl 0 rfl) ?_
  refine lv_iload_n hC.1 hC.2.1 dX1_kind_1 rfl (lv_at hl 1 rfl) ?_
  refine cx_calli (ci := 1) (rest := []) (m_isSequence l (x := x) ) hC hml hl.1 hw rfl (cwV 1 hC.2.2.2 (lw_V q224 q226 qs17 q30 q227) rfl rfl rfl (by decide +kernel) ⟨Nat.le_of_ble_eq_true rfl, Nat.le_of_ble_eq_true rfl⟩) rfl rfl rfl rfl (Nat.le_of_ble_eq_true rfl) dX1_kind_2 ⟨Nat.zero_le _, Nat.zero_le _⟩ (fun r u' H locs hp hw => ?_)
  rcases hp with ⟨rfl, rfl, hq1⟩ | ⟨rfl, rfl, hq1⟩
  · obtain ⟨i, hi, rfl⟩ := hq1
    refine xn_if_eq (tgt := 17) hC (by omega) dX1_kind_5 (by decide) (fun c => absurd c (by decide)) (fun _ => ?_)
    refine lv_aload_n hC.1 hC.2.1 dX1_kind_8 rfl (lv_at hl 0 rfl) ?_
    refine m_g_kind hC hw dX1_kind_9 ?_
    refine lv_iload_n hC.1 hC.2.1 dX1_kind_12 rfl (lv_at hl 1 rfl) ?_
    refine m_ld_kd (i := i) hC hw (by omega) dX1_kind_13 ?_
    refine lv_goto (tgt := 18) hC.1 hC.2.1 dX1_kind_14 (by decide) ?_
    exact cx_iret hC hr hk hw ⟨⟨rfl, h01⟩, Or.inl ⟨i, hi, rfl, rfl⟩⟩ dX1_kind_18
  · refine xn_if_eq (tgt := 17) hC (by omega) dX1_kind_5 (by decide) (fun _ => ?_) (fun c => absurd c (by decide))
    refine lv_iconst (v := (-1)) hC.1 hC.2.1 dX1_kind_17 (by decide) ?_
    exact cx_iret hC hr hk hw ⟨⟨rfl, h01⟩, Or.inr ⟨hq1, rfl⟩⟩ dX1_kind_18
set_option maxHeartbeats 4000000 in
set_option maxRecDepth 100000 in
/-- a definition -/
theorem m_define (l : Launch)  {D : sg_D} {x k a b : Int32} (hD : sg_Ok D) : cx_Mi l yX1_define cX1_define 5 (some .boolean) ({ frames := 1, cells := 0, slots := 0, locals := 21 }) mW mT [.int x, .int k, .int a, .int b] (mSt D) (fun _ r' u' => ∃ D', mSt D' u' ∧ sg_Df D x k a b r' D') := by
  refine cx_Mi.of (by decide) (fun _ => Nat.le_of_ble_eq_true rfl) ?_
  intro p e s m below meth c Dg ad ct A u ls hu hC hml hr hk hw hl
  obtain ⟨kd, da, db, hs, vl, pa, pb⟩ := u
  obtain ⟨rfl, h01⟩ := hu
  have hC : cx_C p m c cX1_define s _ RX1 := hC
  have hl : lv_has ls 5 [(0, .ref (ad 0)), (1, .int x), (2, .int k), (3, .int a), (4, .int b)] := hl
  refine lv_aload_n hC.1 hC.2.1 dX1_define_0 rfl (lv_at hl 0 rfl) ?_
  refine lv_iload_n hC.1 hC.2.1 dX1_define_1 rfl (lv_at hl 1 rfl) ?_
  refine cx_calli (ci := 1) (rest := []) (m_isSequence l (x := x) ) hC hml hl.1 hw rfl (cwV 1 hC.2.2.2 (lw_V q224 q226 qs17 q30 q227) rfl rfl rfl (by decide +kernel) ⟨Nat.le_of_ble_eq_true rfl, Nat.le_of_ble_eq_true rfl⟩) rfl rfl rfl rfl (Nat.le_of_ble_eq_true rfl) dX1_define_2 ⟨Nat.zero_le _, Nat.zero_le _⟩ (fun r u' H locs hp hw => ?_)
  rcases hp with ⟨rfl, rfl, hq1⟩ | ⟨rfl, rfl, hq1⟩
  · obtain ⟨i, hi, rfl⟩ := hq1
    refine xn_if_eq (tgt := 18) hC (by omega) dX1_define_5 (by decide) (fun c => absurd c (by decide)) (fun _ => ?_)
    refine lv_iload_n hC.1 hC.2.1 dX1_define_8 rfl (lv_at hl 2 rfl) ?_
    refine lv_if_lt (tgt := 18) hC.1 hC.2.1 dX1_define_9 (by decide) (fun c1 => ?_) (fun c1 => ?_)
    · refine lv_iconst (v := nI 0) hC.1 hC.2.1 dX1_define_18 (by decide) ?_
      exact cx_zret hC hr hk hw (by decide) ⟨(kd, da, db), ⟨rfl, h01⟩, Or.inr ⟨fun ⟨i', c', q⟩ => by obtain ⟨-, q1, -, q2, -⟩ := q; rw [q2] at c1; exact nI_pos (by omega) c1, rfl, rfl⟩⟩ dX1_define_19
    · refine lv_iload_n hC.1 hC.2.1 dX1_define_12 rfl (lv_at hl 2 rfl) ?_
      refine lv_bipush (v := nI 8) hC.1 hC.2.1 dX1_define_13 (by decide) ?_
      refine lv_icmp_le (tgt := 20) hC.1 hC.2.1 dX1_define_15 (by decide) (fun c2 => ?_) (fun c2 => ?_)
      · obtain ⟨w, hw8, rfl⟩ := sg_kd8 c1 c2
        refine lv_aload_n hC.1 hC.2.1 dX1_define_20 rfl (lv_at hl 0 rfl) ?_
        refine lv_iload_n hC.1 hC.2.1 dX1_define_21 rfl (lv_at hl 2 rfl) ?_
        refine cx_calli (ci := 1) (rest := []) (m_namesA l (x := w) hw8) hC hml hl.1 hw rfl (cwV 1 hC.2.2.2 (lw_V q228 q230 qs18 q30 q231) rfl rfl rfl (by decide +kernel) ⟨Nat.le_of_ble_eq_true rfl, Nat.le_of_ble_eq_true rfl⟩) rfl rfl rfl rfl (Nat.le_of_ble_eq_true rfl) dX1_define_22 ⟨Nat.zero_le _, Nat.zero_le _⟩ (fun r u' H locs hp hw => ?_)
        rcases hp with ⟨rfl, rfl, hq2⟩ | ⟨rfl, rfl, hq2⟩
        · refine xn_if_eq (tgt := 36) hC (by omega) dX1_define_25 (by decide) (fun c => absurd c (by decide)) (fun _ => ?_)
          refine lv_aload_n hC.1 hC.2.1 dX1_define_28 rfl (lv_at hl 0 rfl) ?_
          refine lv_iload_n hC.1 hC.2.1 dX1_define_29 rfl (lv_at hl 3 rfl) ?_
          refine cx_calli (ci := 1) (rest := []) (m_isSequence l (x := a) ) hC hml hl.1 hw rfl (cwV 1 hC.2.2.2 (lw_V q224 q226 qs17 q30 q227) rfl rfl rfl (by decide +kernel) ⟨Nat.le_of_ble_eq_true rfl, Nat.le_of_ble_eq_true rfl⟩) rfl rfl rfl rfl (Nat.le_of_ble_eq_true rfl) dX1_define_30 ⟨Nat.zero_le _, Nat.zero_le _⟩ (fun r u' H locs hp hw => ?_)
          rcases hp with ⟨rfl, rfl, hq3⟩ | ⟨rfl, rfl, hq3⟩
          · refine xn_if_eq (tgt := 53) hC (by omega) dX1_define_33 (by decide) (fun c => absurd c (by decide)) (fun _ => ?_)
            refine lv_aload_n hC.1 hC.2.1 dX1_define_36 rfl (lv_at hl 0 rfl) ?_
            refine lv_iload_n hC.1 hC.2.1 dX1_define_37 rfl (lv_at hl 2 rfl) ?_
            refine cx_calli (ci := 1) (rest := []) (m_namesB l (x := w) hw8) hC hml hl.1 hw rfl (cwV 1 hC.2.2.2 (lw_V q232 q234 qs19 q30 q235) rfl rfl rfl (by decide +kernel) ⟨Nat.le_of_ble_eq_true rfl, Nat.le_of_ble_eq_true rfl⟩) rfl rfl rfl rfl (Nat.le_of_ble_eq_true rfl) dX1_define_38 ⟨Nat.zero_le _, Nat.zero_le _⟩ (fun r u' H locs hp hw => ?_)
            rcases hp with ⟨rfl, rfl, hq4⟩ | ⟨rfl, rfl, hq4⟩
            · refine xn_if_eq (tgt := 55) hC (by omega) dX1_define_41 (by decide) (fun c => absurd c (by decide)) (fun _ => ?_)
              refine lv_aload_n hC.1 hC.2.1 dX1_define_44 rfl (lv_at hl 0 rfl) ?_
              refine lv_iload hC.1 hC.2.1 dX1_define_45 (lv_at hl 4 rfl) ?_
              refine cx_calli (ci := 1) (rest := []) (m_isSequence l (x := b) ) hC hml hl.1 hw rfl (cwV 1 hC.2.2.2 (lw_V q224 q226 qs17 q30 q227) rfl rfl rfl (by decide +kernel) ⟨Nat.le_of_ble_eq_true rfl, Nat.le_of_ble_eq_true rfl⟩) rfl rfl rfl rfl (Nat.le_of_ble_eq_true rfl) dX1_define_47 ⟨Nat.zero_le _, Nat.zero_le _⟩ (fun r u' H locs hp hw => ?_)
              rcases hp with ⟨rfl, rfl, hq5⟩ | ⟨rfl, rfl, hq5⟩
              · refine xn_if_ne (tgt := 55) hC (by omega) dX1_define_50 (by decide) (fun _ => ?_) (fun c => absurd c (by decide))
                refine lv_aload_n hC.1 hC.2.1 dX1_define_55 rfl (lv_at hl 0 rfl) ?_
                refine m_g_kind hC hw dX1_define_56 ?_
                refine lv_iload_n hC.1 hC.2.1 dX1_define_59 rfl (lv_at hl 1 rfl) ?_
                refine lv_iload_n hC.1 hC.2.1 dX1_define_60 rfl (lv_at hl 2 rfl) ?_
                refine m_st_kd (i := i) (v := w) hC hw (by omega) dX1_define_61 (fun H locs hw => ?_)
                refine lv_aload_n hC.1 hC.2.1 dX1_define_62 rfl (lv_at hl 0 rfl) ?_
                refine m_g_a hC hw dX1_define_63 ?_
                refine lv_iload_n hC.1 hC.2.1 dX1_define_66 rfl (lv_at hl 1 rfl) ?_
                refine lv_iload_n hC.1 hC.2.1 dX1_define_67 rfl (lv_at hl 3 rfl) ?_
                refine m_st_da (i := i) (v := a) hC hw (by omega) dX1_define_68 (fun H locs hw => ?_)
                refine lv_aload_n hC.1 hC.2.1 dX1_define_69 rfl (lv_at hl 0 rfl) ?_
                refine m_g_b hC hw dX1_define_70 ?_
                refine lv_iload_n hC.1 hC.2.1 dX1_define_73 rfl (lv_at hl 1 rfl) ?_
                refine lv_iload hC.1 hC.2.1 dX1_define_74 (lv_at hl 4 rfl) ?_
                refine m_st_db (i := i) (v := b) hC hw (by omega) dX1_define_76 (fun H locs hw => ?_)
                refine lv_iconst (v := nI 1) hC.1 hC.2.1 dX1_define_77 (by decide) ?_
                exact cx_zret hC hr hk hw (by decide) ⟨_, ⟨rfl, h01⟩, Or.inl ⟨i, w, ⟨hi, hw8, rfl, rfl, fun _ => hq3, fun _ => hq5⟩, rfl, rfl⟩⟩ dX1_define_78
              · refine xn_if_ne (tgt := 55) hC (by omega) dX1_define_50 (by decide) (fun c => absurd c (by decide)) (fun _ => ?_)
                refine lv_iconst (v := nI 0) hC.1 hC.2.1 dX1_define_53 (by decide) ?_
                exact cx_zret hC hr hk hw (by decide) ⟨(kd, da, db), ⟨rfl, h01⟩, Or.inr ⟨fun ⟨i', c', q⟩ => by obtain ⟨-, q1, -, q2, -, q3⟩ := q; have e := (nI_eq (by omega) (by omega)).mp q2; subst e; exact hq5 (q3 hq4), rfl, rfl⟩⟩ dX1_define_54
            · refine xn_if_eq (tgt := 55) hC (by omega) dX1_define_41 (by decide) (fun _ => ?_) (fun c => absurd c (by decide))
              refine lv_aload_n hC.1 hC.2.1 dX1_define_55 rfl (lv_at hl 0 rfl) ?_
              refine m_g_kind hC hw dX1_define_56 ?_
              refine lv_iload_n hC.1 hC.2.1 dX1_define_59 rfl (lv_at hl 1 rfl) ?_
              refine lv_iload_n hC.1 hC.2.1 dX1_define_60 rfl (lv_at hl 2 rfl) ?_
              refine m_st_kd (i := i) (v := w) hC hw (by omega) dX1_define_61 (fun H locs hw => ?_)
              refine lv_aload_n hC.1 hC.2.1 dX1_define_62 rfl (lv_at hl 0 rfl) ?_
              refine m_g_a hC hw dX1_define_63 ?_
              refine lv_iload_n hC.1 hC.2.1 dX1_define_66 rfl (lv_at hl 1 rfl) ?_
              refine lv_iload_n hC.1 hC.2.1 dX1_define_67 rfl (lv_at hl 3 rfl) ?_
              refine m_st_da (i := i) (v := a) hC hw (by omega) dX1_define_68 (fun H locs hw => ?_)
              refine lv_aload_n hC.1 hC.2.1 dX1_define_69 rfl (lv_at hl 0 rfl) ?_
              refine m_g_b hC hw dX1_define_70 ?_
              refine lv_iload_n hC.1 hC.2.1 dX1_define_73 rfl (lv_at hl 1 rfl) ?_
              refine lv_iload hC.1 hC.2.1 dX1_define_74 (lv_at hl 4 rfl) ?_
              refine m_st_db (i := i) (v := b) hC hw (by omega) dX1_define_76 (fun H locs hw => ?_)
              refine lv_iconst (v := nI 1) hC.1 hC.2.1 dX1_define_77 (by decide) ?_
              exact cx_zret hC hr hk hw (by decide) ⟨_, ⟨rfl, h01⟩, Or.inl ⟨i, w, ⟨hi, hw8, rfl, rfl, fun _ => hq3, fun z => absurd z hq4⟩, rfl, rfl⟩⟩ dX1_define_78
          · refine xn_if_eq (tgt := 53) hC (by omega) dX1_define_33 (by decide) (fun _ => ?_) (fun c => absurd c (by decide))
            refine lv_iconst (v := nI 0) hC.1 hC.2.1 dX1_define_53 (by decide) ?_
            exact cx_zret hC hr hk hw (by decide) ⟨(kd, da, db), ⟨rfl, h01⟩, Or.inr ⟨fun ⟨i', c', q⟩ => by obtain ⟨-, q1, -, q2, q3, -⟩ := q; have e := (nI_eq (by omega) (by omega)).mp q2; subst e; exact hq3 (q3 hq2), rfl, rfl⟩⟩ dX1_define_54
        · refine xn_if_eq (tgt := 36) hC (by omega) dX1_define_25 (by decide) (fun _ => ?_) (fun c => absurd c (by decide))
          refine lv_aload_n hC.1 hC.2.1 dX1_define_36 rfl (lv_at hl 0 rfl) ?_
          refine lv_iload_n hC.1 hC.2.1 dX1_define_37 rfl (lv_at hl 2 rfl) ?_
          refine cx_calli (ci := 1) (rest := []) (m_namesB l (x := w) hw8) hC hml hl.1 hw rfl (cwV 1 hC.2.2.2 (lw_V q232 q234 qs19 q30 q235) rfl rfl rfl (by decide +kernel) ⟨Nat.le_of_ble_eq_true rfl, Nat.le_of_ble_eq_true rfl⟩) rfl rfl rfl rfl (Nat.le_of_ble_eq_true rfl) dX1_define_38 ⟨Nat.zero_le _, Nat.zero_le _⟩ (fun r u' H locs hp hw => ?_)
          rcases hp with ⟨rfl, rfl, hq6⟩ | ⟨rfl, rfl, hq6⟩
          · refine xn_if_eq (tgt := 55) hC (by omega) dX1_define_41 (by decide) (fun c => absurd c (by decide)) (fun _ => ?_)
            refine lv_aload_n hC.1 hC.2.1 dX1_define_44 rfl (lv_at hl 0 rfl) ?_
            refine lv_iload hC.1 hC.2.1 dX1_define_45 (lv_at hl 4 rfl) ?_
            refine cx_calli (ci := 1) (rest := []) (m_isSequence l (x := b) ) hC hml hl.1 hw rfl (cwV 1 hC.2.2.2 (lw_V q224 q226 qs17 q30 q227) rfl rfl rfl (by decide +kernel) ⟨Nat.le_of_ble_eq_true rfl, Nat.le_of_ble_eq_true rfl⟩) rfl rfl rfl rfl (Nat.le_of_ble_eq_true rfl) dX1_define_47 ⟨Nat.zero_le _, Nat.zero_le _⟩ (fun r u' H locs hp hw => ?_)
            rcases hp with ⟨rfl, rfl, hq7⟩ | ⟨rfl, rfl, hq7⟩
            · refine xn_if_ne (tgt := 55) hC (by omega) dX1_define_50 (by decide) (fun _ => ?_) (fun c => absurd c (by decide))
              refine lv_aload_n hC.1 hC.2.1 dX1_define_55 rfl (lv_at hl 0 rfl) ?_
              refine m_g_kind hC hw dX1_define_56 ?_
              refine lv_iload_n hC.1 hC.2.1 dX1_define_59 rfl (lv_at hl 1 rfl) ?_
              refine lv_iload_n hC.1 hC.2.1 dX1_define_60 rfl (lv_at hl 2 rfl) ?_
              refine m_st_kd (i := i) (v := w) hC hw (by omega) dX1_define_61 (fun H locs hw => ?_)
              refine lv_aload_n hC.1 hC.2.1 dX1_define_62 rfl (lv_at hl 0 rfl) ?_
              refine m_g_a hC hw dX1_define_63 ?_
              refine lv_iload_n hC.1 hC.2.1 dX1_define_66 rfl (lv_at hl 1 rfl) ?_
              refine lv_iload_n hC.1 hC.2.1 dX1_define_67 rfl (lv_at hl 3 rfl) ?_
              refine m_st_da (i := i) (v := a) hC hw (by omega) dX1_define_68 (fun H locs hw => ?_)
              refine lv_aload_n hC.1 hC.2.1 dX1_define_69 rfl (lv_at hl 0 rfl) ?_
              refine m_g_b hC hw dX1_define_70 ?_
              refine lv_iload_n hC.1 hC.2.1 dX1_define_73 rfl (lv_at hl 1 rfl) ?_
              refine lv_iload hC.1 hC.2.1 dX1_define_74 (lv_at hl 4 rfl) ?_
              refine m_st_db (i := i) (v := b) hC hw (by omega) dX1_define_76 (fun H locs hw => ?_)
              refine lv_iconst (v := nI 1) hC.1 hC.2.1 dX1_define_77 (by decide) ?_
              exact cx_zret hC hr hk hw (by decide) ⟨_, ⟨rfl, h01⟩, Or.inl ⟨i, w, ⟨hi, hw8, rfl, rfl, fun z => absurd z hq2, fun _ => hq7⟩, rfl, rfl⟩⟩ dX1_define_78
            · refine xn_if_ne (tgt := 55) hC (by omega) dX1_define_50 (by decide) (fun c => absurd c (by decide)) (fun _ => ?_)
              refine lv_iconst (v := nI 0) hC.1 hC.2.1 dX1_define_53 (by decide) ?_
              exact cx_zret hC hr hk hw (by decide) ⟨(kd, da, db), ⟨rfl, h01⟩, Or.inr ⟨fun ⟨i', c', q⟩ => by obtain ⟨-, q1, -, q2, -, q3⟩ := q; have e := (nI_eq (by omega) (by omega)).mp q2; subst e; exact hq7 (q3 hq6), rfl, rfl⟩⟩ dX1_define_54
          · refine xn_if_eq (tgt := 55) hC (by omega) dX1_define_41 (by decide) (fun _ => ?_) (fun c => absurd c (by decide))
            refine lv_aload_n hC.1 hC.2.1 dX1_define_55 rfl (lv_at hl 0 rfl) ?_
            refine m_g_kind hC hw dX1_define_56 ?_
            refine lv_iload_n hC.1 hC.2.1 dX1_define_59 rfl (lv_at hl 1 rfl) ?_
            refine lv_iload_n hC.1 hC.2.1 dX1_define_60 rfl (lv_at hl 2 rfl) ?_
            refine m_st_kd (i := i) (v := w) hC hw (by omega) dX1_define_61 (fun H locs hw => ?_)
            refine lv_aload_n hC.1 hC.2.1 dX1_define_62 rfl (lv_at hl 0 rfl) ?_
            refine m_g_a hC hw dX1_define_63 ?_
            refine lv_iload_n hC.1 hC.2.1 dX1_define_66 rfl (lv_at hl 1 rfl) ?_
            refine lv_iload_n hC.1 hC.2.1 dX1_define_67 rfl (lv_at hl 3 rfl) ?_
            refine m_st_da (i := i) (v := a) hC hw (by omega) dX1_define_68 (fun H locs hw => ?_)
            refine lv_aload_n hC.1 hC.2.1 dX1_define_69 rfl (lv_at hl 0 rfl) ?_
            refine m_g_b hC hw dX1_define_70 ?_
            refine lv_iload_n hC.1 hC.2.1 dX1_define_73 rfl (lv_at hl 1 rfl) ?_
            refine lv_iload hC.1 hC.2.1 dX1_define_74 (lv_at hl 4 rfl) ?_
            refine m_st_db (i := i) (v := b) hC hw (by omega) dX1_define_76 (fun H locs hw => ?_)
            refine lv_iconst (v := nI 1) hC.1 hC.2.1 dX1_define_77 (by decide) ?_
            exact cx_zret hC hr hk hw (by decide) ⟨_, ⟨rfl, h01⟩, Or.inl ⟨i, w, ⟨hi, hw8, rfl, rfl, fun z => absurd z hq2, fun z => absurd z hq6⟩, rfl, rfl⟩⟩ dX1_define_78
      · refine lv_iconst (v := nI 0) hC.1 hC.2.1 dX1_define_18 (by decide) ?_
        exact cx_zret hC hr hk hw (by decide) ⟨(kd, da, db), ⟨rfl, h01⟩, Or.inr ⟨fun ⟨i', c', q⟩ => by obtain ⟨-, q1, -, q2, -⟩ := q; rw [q2, nI_leI (by omega) (by omega)] at c2; exact c2 q1, rfl, rfl⟩⟩ dX1_define_19
  · refine xn_if_eq (tgt := 18) hC (by omega) dX1_define_5 (by decide) (fun _ => ?_) (fun c => absurd c (by decide))
    refine lv_iconst (v := nI 0) hC.1 hC.2.1 dX1_define_18 (by decide) ?_
    exact cx_zret hC hr hk hw (by decide) ⟨(kd, da, db), ⟨rfl, h01⟩, Or.inr ⟨fun ⟨i', c', q⟩ => hq1 ⟨i', q.1, q.2.2.1⟩, rfl, rfl⟩⟩ dX1_define_19
set_option maxHeartbeats 4000000 in
set_option maxRecDepth 100000 in
/-- all definitions as at the start -/
theorem m_reset (l : Launch)  {D : sg_D}  (hD : sg_Ok D) : cx_Mv l yX1_reset cX1_reset 2 ({ frames := 2, cells := 0, slots := 0, locals := 45 }) mW mT [] (mSt D) (fun _ u' => mSt (sg_rs D 6) u') := by
  refine cx_Mv.of (by decide) (fun _ => Nat.le_of_ble_eq_true rfl) ?_
  intro p e s m below meth c Dg ad ct A u ls hu hC hml hr hk hw hl
  obtain ⟨kd, da, db, hs, vl, pa, pb⟩ := u
  obtain ⟨rfl, h01⟩ := hu
  have hC : cx_C p m c cX1_reset s _ RX1 := hC
  have hl : lv_has ls 2 [(0, .ref (ad 0))] := hl
  have loop : ∀ (n : Nat) (i : Nat) (kd1 : Nat → Nat) (da1 db1 : Nat → Int32) (hs : Nat → Nat) (vl : Nat → Int32) (pa pb : Nat), i ≤ 6 → 7 ≤ i + n → mSt (sg_rs (kd, da, db) i) (kd1, da1, db1, hs, vl, pa, pb) → ∀ (H : Heap) (locs : List Loc) (ls : Array Slot), cx_W Dg (mT ct) A s s.heap H locs (mW ad ct (kd1, da1, db1, hs, vl, pa, pb)) → lv_has ls 2 [(1, .int (nI i)), (0, .ref (ad 0))] → W p l e ({ frames := 2, cells := 0, slots := 0, locals := 45 }) s m ([.ref (ad 0)] : List Value).toArray below meth c H locs 0 0 (MQ below (va_Qv (fun u' => mSt (sg_rs (kd, da, db) 6) u') (cx_B Dg (mT ct) (mW ad ct) A) A) ([.ref (ad 0)] : List Value).toArray s 0 0 A) (F0 m 2 ls []) := by
    intro n
    induction n with
    | zero =>
      intro i kd1 da1 db1 hs vl pa pb hi hn hm
      exact absurd hn (by omega)
    | succ n ih =>
      intro i kd1 da1 db1 hs vl pa pb hi hn hm H locs ls hw hl
      refine lv_iload_n hC.1 hC.2.1 dX1_reset_2 rfl (lv_at hl 0 rfl) ?_
      refine lv_bipush (v := nI 6) hC.1 hC.2.1 dX1_reset_3 (by decide) ?_
      refine xn_icmp_ge (tgt := 23) hC (by omega) (by omega) dX1_reset_5 (by decide) (fun c1 => ?_) (fun c1 => ?_)
      · have h66 : i = 6 := by omega
        subst h66
        exact cx_vret hC hr hk hw hm dX1_reset_23
      · refine lv_aload_n hC.1 hC.2.1 dX1_reset_8 rfl (lv_at hl 1 rfl) ?_
        refine lv_iload_n hC.1 hC.2.1 dX1_reset_9 rfl (lv_at hl 0 rfl) ?_
        refine lv_iconst (v := nI 0) hC.1 hC.2.1 dX1_reset_10 (by decide) ?_
        refine lv_iconst (v := nI 0) hC.1 hC.2.1 dX1_reset_11 (by decide) ?_
        refine lv_iconst (v := nI 0) hC.1 hC.2.1 dX1_reset_12 (by decide) ?_
        refine cx_calli (ci := 1) (rest := []) (m_define l (D := sg_rs (kd, da, db) i) (x := nI i) (k := nI 0) (a := nI 0) (b := nI 0) (sg_rs_ok hD i)) hC hml hl.1 hw hm (cwV 4 hC.2.2.2 (lw_V q296 q221 q222 q30 q223) rfl rfl rfl (by decide +kernel) ⟨Nat.le_of_ble_eq_true rfl, Nat.le_of_ble_eq_true rfl⟩) rfl rfl rfl rfl (Nat.le_of_ble_eq_true rfl) dX1_reset_13 ⟨Nat.zero_le _, Nat.zero_le _⟩ (fun r u' H locs hp hw => ?_)
        obtain ⟨D', hm', hdf⟩ := hp
        have eD := sg_df_rs (by omega) hdf
        subst eD
        obtain ⟨kd2, da2, db2, hs2, vl2, pa2, pb2⟩ := u'
        have hm : mSt (sg_rs (kd, da, db) (i + 1)) (kd2, da2, db2, hs2, vl2, pa2, pb2) := hm'
        refine lv_pop hC.1 hC.2.1 dX1_reset_16 rfl ?_
        refine lv_iinc (v := nI (i + 1)) (lv' := [(1, .int (nI (i + 1))), (0, .ref (ad 0))]) hC.1 hC.2.1 dX1_reset_17 hl (k := 0) rfl (xn_inc _) (by decide) rfl (fun ls hl => ?_)
        refine lv_goto (tgt := 2) hC.1 hC.2.1 dX1_reset_20 (by decide) ?_
        exact ih (i + 1) _ _ _ _ _ _ _ (by omega) (by omega) hm H locs ls hw (lv_sub hl [0, 1] rfl)
  refine lv_iconst (v := nI 0) hC.1 hC.2.1 dX1_reset_0 (by decide) ?_
  refine lv_istore_n (lv' := [(1, .int (nI 0)), (0, .ref (ad 0))]) hC.1 hC.2.1 dX1_reset_1 rfl hl (by decide) rfl (fun ls hl => ?_)
  exact loop 7 0 kd da db hs vl pa pb (by omega) (by omega) ⟨rfl, h01⟩ _ _ _ hw (lv_sub hl [0, 1] rfl)
end
section
/-! THE TWO CONSTRUCTORS -/
def x0 : xS := (fun _ => 0, fun _ => 0, fun _ => 0, 0, 0, 0, fun _ => 0, fun _ => 0, fun _ => 0, fun _ => 0, fun _ => 0, fun _ => 0, fun _ => 0, fun _ => 0, fun _ => 0, 0)
set_option maxHeartbeats 4000000 in
set_option maxRecDepth 100000 in
/-- the constructor: 12 new arrays, all zero -/
theorem x_init (l : Launch) (D : va_G) (h0 sz : Nat) : Met l yX0_init (ws_ yX0_init cX0_init 1 none) ({ frames := 1, cells := 12, slots := 3624, locals := 12 }) (va_Pc [.ref h0] (cx_Pre D [] [(h0, .inr (0, [.null, .null, .null, .int 0, .int 0, .int 0, .null, .null, .null, .null, .null, .null, .null, .null, .null, .int 0]))] sz)) (va_Qv (fun u : (Nat → Nat) × (Nat → ClassId) => u.1 0 = h0) (fun u t => va_P D vwCl (xW u.1 u.2 x0) t.heap ∧ va_K D vwCl (xT u.2) t ∧ va_D (va_A [(h0, .inr (0, [.null, .null, .null, .int 0, .int 0, .int 0, .null, .null, .null, .null, .null, .null, .null, .null, .null, .int 0]))] sz) (xW u.1 u.2 x0)) (va_A [(h0, .inr (0, [.null, .null, .null, .int 0, .int 0, .int 0, .null, .null, .null, .null, .null, .null, .null, .null, .null, .int 0]))] sz)) 12 3624 (va_A [(h0, .inr (0, [.null, .null, .null, .int 0, .int 0, .int 0, .null, .null, .null, .null, .null, .null, .null, .null, .null, .int 0]))] sz) := by
  refine Met.ofW (cc := cX0_init) (maxL := 1) (ret := none) (by decide) rfl ?_
  intro p e s m args below meth c s₁ B hml hv
  obtain ⟨rfl, hsz, hP, hK, hD0⟩ := hv
  have hx := B.exec
  have hb := B.bytes
  have hr := B.returns
  have hts := atoms_spec (ws := ws_ yX0_init cX0_init 1 none) B.pre
  have hts : ∀ w ∈ lw_all, w.before _ s = true := fun w h => hts w (List.mem_cons_of_mem _ h)
  have hown : s.vm.findClass RX0 = some m.cls := findClass_of_methodNamed B.named
  have hlocks := B.notSynchronized
  have hin : meth.name = "<init>" := (name_of_methodNamed B.named B.method).1
  subst hsz
  have hD := hD0.self (sz := s.heap.size)
  generalize hAe : va_A [(h0, .inr (0, [.null, .null, .null, .int 0, .int 0, .int 0, .null, .null, .null, .null, .null, .null, .null, .null, .null, .int 0]))] s.heap.size = A at hD ⊢
  have hA : ∀ q : Nat, s.heap.size ≤ q → A q := fun q h => by rw [← hAe]; exact Or.inr h
  have hS : va_S A s.heap s.heap [] := va_S.rf
  have hP : va_P D vwCl [(h0, .inr (0, [.null, .null, .null, .int 0, .int 0, .int 0, .null, .null, .null, .null, .null, .null, .null, .null, .null, .int 0]))] s.heap := hP
  have hl := lv_entry ([.ref h0]) (n := 1) (Nat.le_of_ble_eq_true rfl)
  rw [lg_entry_eq]
  generalize (lg_sl ([.ref h0]) ++ List.replicate (1 - (lg_sl ([.ref h0])).length) Slot.unset).toArray = ls at hl ⊢
  have hl : lv_has ls 1 [(0, .ref h0)] := hl
  refine lv_aload_n hx hb dX0_init_0 rfl (lv_at hl 0 rfl) ?_
  refine W.objInit hx hb hown (hts _ q36) (hts _ q37) (hts _ q38) rfl (by rw [hml]; exact hl.1) rfl dX0_init_1 (Nat.le_of_ble_eq_true rfl) (Nat.le_of_ble_eq_true rfl) ?_
  refine W.eq (g2 := F0 m 4 ls []) rfl ?_
  refine lv_aload_n hx hb dX0_init_4 rfl (lv_at hl 0 rfl) ?_
  refine lv_bipush (v := 6) hx hb dX0_init_5 (by decide) ?_
  refine va_newa (atype := .byte) (ty := .byte) (a0 := (6, .inl (fun _ => nI 0))) hx hb (hts _ q88) rfl hK hP hD hS hA (fun _ => rfl) (by decide) (by decide) (by decide) (Nat.le_of_ble_eq_true rfl) (Nat.le_of_ble_eq_true rfl) dX0_init_7 (fun a0 c0 H hK hP hD hS => ?_)
  have hK : va_K D vwCl [(c0, .byte)] s := hK
  have hP : va_P D vwCl [(h0, .inr (0, [.null, .null, .null, .int 0, .int 0, .int 0, .null, .null, .null, .null, .null, .null, .null, .null, .null, .int 0])), (a0, .inl (c0, 6, .inl (fun _ => nI 0)))] H := hP
  have hD : va_D A [(h0, .inr (0, [.null, .null, .null, .int 0, .int 0, .int 0, .null, .null, .null, .null, .null, .null, .null, .null, .null, .int 0])), (a0, .inl (c0, 6, .inl (fun _ => nI 0)))] := hD
  refine W.widen (k := 1) (n := 6) (Nat.le_of_ble_eq_true rfl) (Nat.le_of_ble_eq_true rfl) ?_
  refine va_putF (D := D) (ci := 0) (v := .ref a0) (ty := .array .byte) (C := RX0) (T := TX0) (N := 16) hx hb hts in_X0 tyX0 tyX0_ok nmX0 hown hK hP hD hS 0 rfl rfl 0 (by decide) (hts _ q39) (fun _ h9 => h9) rfl hin rfl (by decide +kernel) rfl rfl (Nat.le_of_ble_eq_true rfl) dX0_init_9 (fun H locs hP hD hS => ?_)
  have hP : va_P D vwCl [(h0, .inr (0, [.ref a0, .null, .null, .int 0, .int 0, .int 0, .null, .null, .null, .null, .null, .null, .null, .null, .null, .int 0])), (a0, .inl (c0, 6, .inl (fun _ => nI 0)))] H := hP
  have hD : va_D A [(h0, .inr (0, [.ref a0, .null, .null, .int 0, .int 0, .int 0, .null, .null, .null, .null, .null, .null, .null, .null, .null, .int 0])), (a0, .inl (c0, 6, .inl (fun _ => nI 0)))] := hD
  refine lv_aload_n hx hb dX0_init_12 rfl (lv_at hl 0 rfl) ?_
  refine lv_bipush (v := 6) hx hb dX0_init_13 (by decide) ?_
  refine va_newa (atype := .int) (ty := .int) (a0 := (6, .inl (fun _ => 0))) hx hb (hts _ q89) rfl hK hP hD hS hA (fun _ => rfl) (by decide) (by decide) (by decide) (Nat.le_of_ble_eq_true rfl) (Nat.le_of_ble_eq_true rfl) dX0_init_15 (fun a1 c1 H hK hP hD hS => ?_)
  have hK : va_K D vwCl [(c0, .byte), (c1, .int)] s := hK
  have hP : va_P D vwCl [(h0, .inr (0, [.ref a0, .null, .null, .int 0, .int 0, .int 0, .null, .null, .null, .null, .null, .null, .null, .null, .null, .int 0])), (a0, .inl (c0, 6, .inl (fun _ => nI 0))), (a1, .inl (c1, 6, .inl (fun _ => 0)))] H := hP
  have hD : va_D A [(h0, .inr (0, [.ref a0, .null, .null, .int 0, .int 0, .int 0, .null, .null, .null, .null, .null, .null, .null, .null, .null, .int 0])), (a0, .inl (c0, 6, .inl (fun _ => nI 0))), (a1, .inl (c1, 6, .inl (fun _ => 0)))] := hD
  refine W.widen (k := 2) (n := 12) (Nat.le_of_ble_eq_true rfl) (Nat.le_of_ble_eq_true rfl) ?_
  refine va_putF (D := D) (ci := 0) (v := .ref a1) (ty := .array .int) (C := RX0) (T := TX0) (N := 16) hx hb hts in_X0 tyX0 tyX0_ok nmX0 hown hK hP hD hS 0 rfl rfl 1 (by decide) (hts _ q40) (fun _ h9 => h9) rfl hin rfl (by decide +kernel) rfl rfl (Nat.le_of_ble_eq_true rfl) dX0_init_17 (fun H locs hP hD hS => ?_)
  have hP : va_P D vwCl [(h0, .inr (0, [.ref a0, .ref a1, .null, .int 0, .int 0, .int 0, .null, .null, .null, .null, .null, .null, .null, .null, .null, .int 0])), (a0, .inl (c0, 6, .inl (fun _ => nI 0))), (a1, .inl (c1, 6, .inl (fun _ => 0)))] H := hP
  have hD : va_D A [(h0, .inr (0, [.ref a0, .ref a1, .null, .int 0, .int 0, .int 0, .null, .null, .null, .null, .null, .null, .null, .null, .null, .int 0])), (a0, .inl (c0, 6, .inl (fun _ => nI 0))), (a1, .inl (c1, 6, .inl (fun _ => 0)))] := hD
  refine lv_aload_n hx hb dX0_init_20 rfl (lv_at hl 0 rfl) ?_
  refine lv_bipush (v := 6) hx hb dX0_init_21 (by decide) ?_
  refine va_newa (atype := .int) (ty := .int) (a0 := (6, .inl (fun _ => 0))) hx hb (hts _ q89) rfl hK hP hD hS hA (fun _ => rfl) (by decide) (by decide) (by decide) (Nat.le_of_ble_eq_true rfl) (Nat.le_of_ble_eq_true rfl) dX0_init_23 (fun a2 c2 H hK hP hD hS => ?_)
  have hK : va_K D vwCl [(c0, .byte), (c1, .int), (c2, .int)] s := hK
  have hP : va_P D vwCl [(h0, .inr (0, [.ref a0, .ref a1, .null, .int 0, .int 0, .int 0, .null, .null, .null, .null, .null, .null, .null, .null, .null, .int 0])), (a0, .inl (c0, 6, .inl (fun _ => nI 0))), (a1, .inl (c1, 6, .inl (fun _ => 0))), (a2, .inl (c2, 6, .inl (fun _ => 0)))] H := hP
  have hD : va_D A [(h0, .inr (0, [.ref a0, .ref a1, .null, .int 0, .int 0, .int 0, .null, .null, .null, .null, .null, .null, .null, .null, .null, .int 0])), (a0, .inl (c0, 6, .inl (fun _ => nI 0))), (a1, .inl (c1, 6, .inl (fun _ => 0))), (a2, .inl (c2, 6, .inl (fun _ => 0)))] := hD
  refine W.widen (k := 3) (n := 18) (Nat.le_of_ble_eq_true rfl) (Nat.le_of_ble_eq_true rfl) ?_
  refine va_putF (D := D) (ci := 0) (v := .ref a2) (ty := .array .int) (C := RX0) (T := TX0) (N := 16) hx hb hts in_X0 tyX0 tyX0_ok nmX0 hown hK hP hD hS 0 rfl rfl 2 (by decide) (hts _ q41) (fun _ h9 => h9) rfl hin rfl (by decide +kernel) rfl rfl (Nat.le_of_ble_eq_true rfl) dX0_init_25 (fun H locs hP hD hS => ?_)
  have hP : va_P D vwCl [(h0, .inr (0, [.ref a0, .ref a1, .ref a2, .int 0, .int 0, .int 0, .null, .null, .null, .null, .null, .null, .null, .null, .null, .int 0])), (a0, .inl (c0, 6, .inl (fun _ => nI 0))), (a1, .inl (c1, 6, .inl (fun _ => 0))), (a2, .inl (c2, 6, .inl (fun _ => 0)))] H := hP
  have hD : va_D A [(h0, .inr (0, [.ref a0, .ref a1, .ref a2, .int 0, .int 0, .int 0, .null, .null, .null, .null, .null, .null, .null, .null, .null, .int 0])), (a0, .inl (c0, 6, .inl (fun _ => nI 0))), (a1, .inl (c1, 6, .inl (fun _ => 0))), (a2, .inl (c2, 6, .inl (fun _ => 0)))] := hD
  refine lv_aload_n hx hb dX0_init_28 rfl (lv_at hl 0 rfl) ?_
  refine lv_sipush (v := 512) hx hb dX0_init_29 (by decide) ?_
  refine va_newa (atype := .byte) (ty := .byte) (a0 := (512, .inl (fun _ => nI 0))) hx hb (hts _ q88) rfl hK hP hD hS hA (fun _ => rfl) (by decide) (by decide) (by decide) (Nat.le_of_ble_eq_true rfl) (Nat.le_of_ble_eq_true rfl) dX0_init_32 (fun a3 c3 H hK hP hD hS => ?_)
  have hK : va_K D vwCl [(c0, .byte), (c1, .int), (c2, .int), (c3, .byte)] s := hK
  have hP : va_P D vwCl [(h0, .inr (0, [.ref a0, .ref a1, .ref a2, .int 0, .int 0, .int 0, .null, .null, .null, .null, .null, .null, .null, .null, .null, .int 0])), (a0, .inl (c0, 6, .inl (fun _ => nI 0))), (a1, .inl (c1, 6, .inl (fun _ => 0))), (a2, .inl (c2, 6, .inl (fun _ => 0))), (a3, .inl (c3, 512, .inl (fun _ => nI 0)))] H := hP
  have hD : va_D A [(h0, .inr (0, [.ref a0, .ref a1, .ref a2, .int 0, .int 0, .int 0, .null, .null, .null, .null, .null, .null, .null, .null, .null, .int 0])), (a0, .inl (c0, 6, .inl (fun _ => nI 0))), (a1, .inl (c1, 6, .inl (fun _ => 0))), (a2, .inl (c2, 6, .inl (fun _ => 0))), (a3, .inl (c3, 512, .inl (fun _ => nI 0)))] := hD
  refine W.widen (k := 4) (n := 530) (Nat.le_of_ble_eq_true rfl) (Nat.le_of_ble_eq_true rfl) ?_
  refine va_putF (D := D) (ci := 0) (v := .ref a3) (ty := .array .byte) (C := RX0) (T := TX0) (N := 16) hx hb hts in_X0 tyX0 tyX0_ok nmX0 hown hK hP hD hS 0 rfl rfl 6 (by decide) (hts _ q45) (fun _ h9 => h9) rfl hin rfl (by decide +kernel) rfl rfl (Nat.le_of_ble_eq_true rfl) dX0_init_34 (fun H locs hP hD hS => ?_)
  have hP : va_P D vwCl [(h0, .inr (0, [.ref a0, .ref a1, .ref a2, .int 0, .int 0, .int 0, .ref a3, .null, .null, .null, .null, .null, .null, .null, .null, .int 0])), (a0, .inl (c0, 6, .inl (fun _ => nI 0))), (a1, .inl (c1, 6, .inl (fun _ => 0))), (a2, .inl (c2, 6, .inl (fun _ => 0))), (a3, .inl (c3, 512, .inl (fun _ => nI 0)))] H := hP
  have hD : va_D A [(h0, .inr (0, [.ref a0, .ref a1, .ref a2, .int 0, .int 0, .int 0, .ref a3, .null, .null, .null, .null, .null, .null, .null, .null, .int 0])), (a0, .inl (c0, 6, .inl (fun _ => nI 0))), (a1, .inl (c1, 6, .inl (fun _ => 0))), (a2, .inl (c2, 6, .inl (fun _ => 0))), (a3, .inl (c3, 512, .inl (fun _ => nI 0)))] := hD
  refine lv_aload_n hx hb dX0_init_37 rfl (lv_at hl 0 rfl) ?_
  refine lv_sipush (v := 512) hx hb dX0_init_38 (by decide) ?_
  refine va_newa (atype := .int) (ty := .int) (a0 := (512, .inl (fun _ => 0))) hx hb (hts _ q89) rfl hK hP hD hS hA (fun _ => rfl) (by decide) (by decide) (by decide) (Nat.le_of_ble_eq_true rfl) (Nat.le_of_ble_eq_true rfl) dX0_init_41 (fun a4 c4 H hK hP hD hS => ?_)
  have hK : va_K D vwCl [(c0, .byte), (c1, .int), (c2, .int), (c3, .byte), (c4, .int)] s := hK
  have hP : va_P D vwCl [(h0, .inr (0, [.ref a0, .ref a1, .ref a2, .int 0, .int 0, .int 0, .ref a3, .null, .null, .null, .null, .null, .null, .null, .null, .int 0])), (a0, .inl (c0, 6, .inl (fun _ => nI 0))), (a1, .inl (c1, 6, .inl (fun _ => 0))), (a2, .inl (c2, 6, .inl (fun _ => 0))), (a3, .inl (c3, 512, .inl (fun _ => nI 0))), (a4, .inl (c4, 512, .inl (fun _ => 0)))] H := hP
  have hD : va_D A [(h0, .inr (0, [.ref a0, .ref a1, .ref a2, .int 0, .int 0, .int 0, .ref a3, .null, .null, .null, .null, .null, .null, .null, .null, .int 0])), (a0, .inl (c0, 6, .inl (fun _ => nI 0))), (a1, .inl (c1, 6, .inl (fun _ => 0))), (a2, .inl (c2, 6, .inl (fun _ => 0))), (a3, .inl (c3, 512, .inl (fun _ => nI 0))), (a4, .inl (c4, 512, .inl (fun _ => 0)))] := hD
  refine W.widen (k := 5) (n := 1042) (Nat.le_of_ble_eq_true rfl) (Nat.le_of_ble_eq_true rfl) ?_
  refine va_putF (D := D) (ci := 0) (v := .ref a4) (ty := .array .int) (C := RX0) (T := TX0) (N := 16) hx hb hts in_X0 tyX0 tyX0_ok nmX0 hown hK hP hD hS 0 rfl rfl 7 (by decide) (hts _ q46) (fun _ h9 => h9) rfl hin rfl (by decide +kernel) rfl rfl (Nat.le_of_ble_eq_true rfl) dX0_init_43 (fun H locs hP hD hS => ?_)
  have hP : va_P D vwCl [(h0, .inr (0, [.ref a0, .ref a1, .ref a2, .int 0, .int 0, .int 0, .ref a3, .ref a4, .null, .null, .null, .null, .null, .null, .null, .int 0])), (a0, .inl (c0, 6, .inl (fun _ => nI 0))), (a1, .inl (c1, 6, .inl (fun _ => 0))), (a2, .inl (c2, 6, .inl (fun _ => 0))), (a3, .inl (c3, 512, .inl (fun _ => nI 0))), (a4, .inl (c4, 512, .inl (fun _ => 0)))] H := hP
  have hD : va_D A [(h0, .inr (0, [.ref a0, .ref a1, .ref a2, .int 0, .int 0, .int 0, .ref a3, .ref a4, .null, .null, .null, .null, .null, .null, .null, .int 0])), (a0, .inl (c0, 6, .inl (fun _ => nI 0))), (a1, .inl (c1, 6, .inl (fun _ => 0))), (a2, .inl (c2, 6, .inl (fun _ => 0))), (a3, .inl (c3, 512, .inl (fun _ => nI 0))), (a4, .inl (c4, 512, .inl (fun _ => 0)))] := hD
  refine lv_aload_n hx hb dX0_init_46 rfl (lv_at hl 0 rfl) ?_
  refine lv_sipush (v := 512) hx hb dX0_init_47 (by decide) ?_
  refine va_newa (atype := .int) (ty := .int) (a0 := (512, .inl (fun _ => 0))) hx hb (hts _ q89) rfl hK hP hD hS hA (fun _ => rfl) (by decide) (by decide) (by decide) (Nat.le_of_ble_eq_true rfl) (Nat.le_of_ble_eq_true rfl) dX0_init_50 (fun a5 c5 H hK hP hD hS => ?_)
  have hK : va_K D vwCl [(c0, .byte), (c1, .int), (c2, .int), (c3, .byte), (c4, .int), (c5, .int)] s := hK
  have hP : va_P D vwCl [(h0, .inr (0, [.ref a0, .ref a1, .ref a2, .int 0, .int 0, .int 0, .ref a3, .ref a4, .null, .null, .null, .null, .null, .null, .null, .int 0])), (a0, .inl (c0, 6, .inl (fun _ => nI 0))), (a1, .inl (c1, 6, .inl (fun _ => 0))), (a2, .inl (c2, 6, .inl (fun _ => 0))), (a3, .inl (c3, 512, .inl (fun _ => nI 0))), (a4, .inl (c4, 512, .inl (fun _ => 0))), (a5, .inl (c5, 512, .inl (fun _ => 0)))] H := hP
  have hD : va_D A [(h0, .inr (0, [.ref a0, .ref a1, .ref a2, .int 0, .int 0, .int 0, .ref a3, .ref a4, .null, .null, .null, .null, .null, .null, .null, .int 0])), (a0, .inl (c0, 6, .inl (fun _ => nI 0))), (a1, .inl (c1, 6, .inl (fun _ => 0))), (a2, .inl (c2, 6, .inl (fun _ => 0))), (a3, .inl (c3, 512, .inl (fun _ => nI 0))), (a4, .inl (c4, 512, .inl (fun _ => 0))), (a5, .inl (c5, 512, .inl (fun _ => 0)))] := hD
  refine W.widen (k := 6) (n := 1554) (Nat.le_of_ble_eq_true rfl) (Nat.le_of_ble_eq_true rfl) ?_
  refine va_putF (D := D) (ci := 0) (v := .ref a5) (ty := .array .int) (C := RX0) (T := TX0) (N := 16) hx hb hts in_X0 tyX0 tyX0_ok nmX0 hown hK hP hD hS 0 rfl rfl 8 (by decide) (hts _ q47) (fun _ h9 => h9) rfl hin rfl (by decide +kernel) rfl rfl (Nat.le_of_ble_eq_true rfl) dX0_init_52 (fun H locs hP hD hS => ?_)
  have hP : va_P D vwCl [(h0, .inr (0, [.ref a0, .ref a1, .ref a2, .int 0, .int 0, .int 0, .ref a3, .ref a4, .ref a5, .null, .null, .null, .null, .null, .null, .int 0])), (a0, .inl (c0, 6, .inl (fun _ => nI 0))), (a1, .inl (c1, 6, .inl (fun _ => 0))), (a2, .inl (c2, 6, .inl (fun _ => 0))), (a3, .inl (c3, 512, .inl (fun _ => nI 0))), (a4, .inl (c4, 512, .inl (fun _ => 0))), (a5, .inl (c5, 512, .inl (fun _ => 0)))] H := hP
  have hD : va_D A [(h0, .inr (0, [.ref a0, .ref a1, .ref a2, .int 0, .int 0, .int 0, .ref a3, .ref a4, .ref a5, .null, .null, .null, .null, .null, .null, .int 0])), (a0, .inl (c0, 6, .inl (fun _ => nI 0))), (a1, .inl (c1, 6, .inl (fun _ => 0))), (a2, .inl (c2, 6, .inl (fun _ => 0))), (a3, .inl (c3, 512, .inl (fun _ => nI 0))), (a4, .inl (c4, 512, .inl (fun _ => 0))), (a5, .inl (c5, 512, .inl (fun _ => 0)))] := hD
  refine lv_aload_n hx hb dX0_init_55 rfl (lv_at hl 0 rfl) ?_
  refine lv_sipush (v := 512) hx hb dX0_init_56 (by decide) ?_
  refine va_newa (atype := .short) (ty := .short) (a0 := (512, .inl (fun _ => nI 0))) hx hb (hts _ q90) rfl hK hP hD hS hA (fun _ => rfl) (by decide) (by decide) (by decide) (Nat.le_of_ble_eq_true rfl) (Nat.le_of_ble_eq_true rfl) dX0_init_59 (fun a6 c6 H hK hP hD hS => ?_)
  have hK : va_K D vwCl [(c0, .byte), (c1, .int), (c2, .int), (c3, .byte), (c4, .int), (c5, .int), (c6, .short)] s := hK
  have hP : va_P D vwCl [(h0, .inr (0, [.ref a0, .ref a1, .ref a2, .int 0, .int 0, .int 0, .ref a3, .ref a4, .ref a5, .null, .null, .null, .null, .null, .null, .int 0])), (a0, .inl (c0, 6, .inl (fun _ => nI 0))), (a1, .inl (c1, 6, .inl (fun _ => 0))), (a2, .inl (c2, 6, .inl (fun _ => 0))), (a3, .inl (c3, 512, .inl (fun _ => nI 0))), (a4, .inl (c4, 512, .inl (fun _ => 0))), (a5, .inl (c5, 512, .inl (fun _ => 0))), (a6, .inl (c6, 512, .inl (fun _ => nI 0)))] H := hP
  have hD : va_D A [(h0, .inr (0, [.ref a0, .ref a1, .ref a2, .int 0, .int 0, .int 0, .ref a3, .ref a4, .ref a5, .null, .null, .null, .null, .null, .null, .int 0])), (a0, .inl (c0, 6, .inl (fun _ => nI 0))), (a1, .inl (c1, 6, .inl (fun _ => 0))), (a2, .inl (c2, 6, .inl (fun _ => 0))), (a3, .inl (c3, 512, .inl (fun _ => nI 0))), (a4, .inl (c4, 512, .inl (fun _ => 0))), (a5, .inl (c5, 512, .inl (fun _ => 0))), (a6, .inl (c6, 512, .inl (fun _ => nI 0)))] := hD
  refine W.widen (k := 7) (n := 2066) (Nat.le_of_ble_eq_true rfl) (Nat.le_of_ble_eq_true rfl) ?_
  refine va_putF (D := D) (ci := 0) (v := .ref a6) (ty := .array .short) (C := RX0) (T := TX0) (N := 16) hx hb hts in_X0 tyX0 tyX0_ok nmX0 hown hK hP hD hS 0 rfl rfl 9 (by decide) (hts _ q48) (fun _ h9 => h9) rfl hin rfl (by decide +kernel) rfl rfl (Nat.le_of_ble_eq_true rfl) dX0_init_61 (fun H locs hP hD hS => ?_)
  have hP : va_P D vwCl [(h0, .inr (0, [.ref a0, .ref a1, .ref a2, .int 0, .int 0, .int 0, .ref a3, .ref a4, .ref a5, .ref a6, .null, .null, .null, .null, .null, .int 0])), (a0, .inl (c0, 6, .inl (fun _ => nI 0))), (a1, .inl (c1, 6, .inl (fun _ => 0))), (a2, .inl (c2, 6, .inl (fun _ => 0))), (a3, .inl (c3, 512, .inl (fun _ => nI 0))), (a4, .inl (c4, 512, .inl (fun _ => 0))), (a5, .inl (c5, 512, .inl (fun _ => 0))), (a6, .inl (c6, 512, .inl (fun _ => nI 0)))] H := hP
  have hD : va_D A [(h0, .inr (0, [.ref a0, .ref a1, .ref a2, .int 0, .int 0, .int 0, .ref a3, .ref a4, .ref a5, .ref a6, .null, .null, .null, .null, .null, .int 0])), (a0, .inl (c0, 6, .inl (fun _ => nI 0))), (a1, .inl (c1, 6, .inl (fun _ => 0))), (a2, .inl (c2, 6, .inl (fun _ => 0))), (a3, .inl (c3, 512, .inl (fun _ => nI 0))), (a4, .inl (c4, 512, .inl (fun _ => 0))), (a5, .inl (c5, 512, .inl (fun _ => 0))), (a6, .inl (c6, 512, .inl (fun _ => nI 0)))] := hD
  refine lv_aload_n hx hb dX0_init_64 rfl (lv_at hl 0 rfl) ?_
  refine lv_sipush (v := 512) hx hb dX0_init_65 (by decide) ?_
  refine va_newa (atype := .short) (ty := .short) (a0 := (512, .inl (fun _ => nI 0))) hx hb (hts _ q90) rfl hK hP hD hS hA (fun _ => rfl) (by decide) (by decide) (by decide) (Nat.le_of_ble_eq_true rfl) (Nat.le_of_ble_eq_true rfl) dX0_init_68 (fun a7 c7 H hK hP hD hS => ?_)
  have hK : va_K D vwCl [(c0, .byte), (c1, .int), (c2, .int), (c3, .byte), (c4, .int), (c5, .int), (c6, .short), (c7, .short)] s := hK
  have hP : va_P D vwCl [(h0, .inr (0, [.ref a0, .ref a1, .ref a2, .int 0, .int 0, .int 0, .ref a3, .ref a4, .ref a5, .ref a6, .null, .null, .null, .null, .null, .int 0])), (a0, .inl (c0, 6, .inl (fun _ => nI 0))), (a1, .inl (c1, 6, .inl (fun _ => 0))), (a2, .inl (c2, 6, .inl (fun _ => 0))), (a3, .inl (c3, 512, .inl (fun _ => nI 0))), (a4, .inl (c4, 512, .inl (fun _ => 0))), (a5, .inl (c5, 512, .inl (fun _ => 0))), (a6, .inl (c6, 512, .inl (fun _ => nI 0))), (a7, .inl (c7, 512, .inl (fun _ => nI 0)))] H := hP
  have hD : va_D A [(h0, .inr (0, [.ref a0, .ref a1, .ref a2, .int 0, .int 0, .int 0, .ref a3, .ref a4, .ref a5, .ref a6, .null, .null, .null, .null, .null, .int 0])), (a0, .inl (c0, 6, .inl (fun _ => nI 0))), (a1, .inl (c1, 6, .inl (fun _ => 0))), (a2, .inl (c2, 6, .inl (fun _ => 0))), (a3, .inl (c3, 512, .inl (fun _ => nI 0))), (a4, .inl (c4, 512, .inl (fun _ => 0))), (a5, .inl (c5, 512, .inl (fun _ => 0))), (a6, .inl (c6, 512, .inl (fun _ => nI 0))), (a7, .inl (c7, 512, .inl (fun _ => nI 0)))] := hD
  refine W.widen (k := 8) (n := 2578) (Nat.le_of_ble_eq_true rfl) (Nat.le_of_ble_eq_true rfl) ?_
  refine va_putF (D := D) (ci := 0) (v := .ref a7) (ty := .array .short) (C := RX0) (T := TX0) (N := 16) hx hb hts in_X0 tyX0 tyX0_ok nmX0 hown hK hP hD hS 0 rfl rfl 10 (by decide) (hts _ q49) (fun _ h9 => h9) rfl hin rfl (by decide +kernel) rfl rfl (Nat.le_of_ble_eq_true rfl) dX0_init_70 (fun H locs hP hD hS => ?_)
  have hP : va_P D vwCl [(h0, .inr (0, [.ref a0, .ref a1, .ref a2, .int 0, .int 0, .int 0, .ref a3, .ref a4, .ref a5, .ref a6, .ref a7, .null, .null, .null, .null, .int 0])), (a0, .inl (c0, 6, .inl (fun _ => nI 0))), (a1, .inl (c1, 6, .inl (fun _ => 0))), (a2, .inl (c2, 6, .inl (fun _ => 0))), (a3, .inl (c3, 512, .inl (fun _ => nI 0))), (a4, .inl (c4, 512, .inl (fun _ => 0))), (a5, .inl (c5, 512, .inl (fun _ => 0))), (a6, .inl (c6, 512, .inl (fun _ => nI 0))), (a7, .inl (c7, 512, .inl (fun _ => nI 0)))] H := hP
  have hD : va_D A [(h0, .inr (0, [.ref a0, .ref a1, .ref a2, .int 0, .int 0, .int 0, .ref a3, .ref a4, .ref a5, .ref a6, .ref a7, .null, .null, .null, .null, .int 0])), (a0, .inl (c0, 6, .inl (fun _ => nI 0))), (a1, .inl (c1, 6, .inl (fun _ => 0))), (a2, .inl (c2, 6, .inl (fun _ => 0))), (a3, .inl (c3, 512, .inl (fun _ => nI 0))), (a4, .inl (c4, 512, .inl (fun _ => 0))), (a5, .inl (c5, 512, .inl (fun _ => 0))), (a6, .inl (c6, 512, .inl (fun _ => nI 0))), (a7, .inl (c7, 512, .inl (fun _ => nI 0)))] := hD
  refine lv_aload_n hx hb dX0_init_73 rfl (lv_at hl 0 rfl) ?_
  refine lv_sipush (v := 512) hx hb dX0_init_74 (by decide) ?_
  refine va_newa (atype := .boolean) (ty := .boolean) (a0 := (512, .inl (fun _ => nI 0))) hx hb (hts _ q91) rfl hK hP hD hS hA (fun _ => rfl) (by decide) (by decide) (by decide) (Nat.le_of_ble_eq_true rfl) (Nat.le_of_ble_eq_true rfl) dX0_init_77 (fun a8 c8 H hK hP hD hS => ?_)
  have hK : va_K D vwCl [(c0, .byte), (c1, .int), (c2, .int), (c3, .byte), (c4, .int), (c5, .int), (c6, .short), (c7, .short), (c8, .boolean)] s := hK
  have hP : va_P D vwCl [(h0, .inr (0, [.ref a0, .ref a1, .ref a2, .int 0, .int 0, .int 0, .ref a3, .ref a4, .ref a5, .ref a6, .ref a7, .null, .null, .null, .null, .int 0])), (a0, .inl (c0, 6, .inl (fun _ => nI 0))), (a1, .inl (c1, 6, .inl (fun _ => 0))), (a2, .inl (c2, 6, .inl (fun _ => 0))), (a3, .inl (c3, 512, .inl (fun _ => nI 0))), (a4, .inl (c4, 512, .inl (fun _ => 0))), (a5, .inl (c5, 512, .inl (fun _ => 0))), (a6, .inl (c6, 512, .inl (fun _ => nI 0))), (a7, .inl (c7, 512, .inl (fun _ => nI 0))), (a8, .inl (c8, 512, .inl (fun _ => nI 0)))] H := hP
  have hD : va_D A [(h0, .inr (0, [.ref a0, .ref a1, .ref a2, .int 0, .int 0, .int 0, .ref a3, .ref a4, .ref a5, .ref a6, .ref a7, .null, .null, .null, .null, .int 0])), (a0, .inl (c0, 6, .inl (fun _ => nI 0))), (a1, .inl (c1, 6, .inl (fun _ => 0))), (a2, .inl (c2, 6, .inl (fun _ => 0))), (a3, .inl (c3, 512, .inl (fun _ => nI 0))), (a4, .inl (c4, 512, .inl (fun _ => 0))), (a5, .inl (c5, 512, .inl (fun _ => 0))), (a6, .inl (c6, 512, .inl (fun _ => nI 0))), (a7, .inl (c7, 512, .inl (fun _ => nI 0))), (a8, .inl (c8, 512, .inl (fun _ => nI 0)))] := hD
  refine W.widen (k := 9) (n := 3090) (Nat.le_of_ble_eq_true rfl) (Nat.le_of_ble_eq_true rfl) ?_
  refine va_putF (D := D) (ci := 0) (v := .ref a8) (ty := .array .boolean) (C := RX0) (T := TX0) (N := 16) hx hb hts in_X0 tyX0 tyX0_ok nmX0 hown hK hP hD hS 0 rfl rfl 11 (by decide) (hts _ q50) (fun _ h9 => h9) rfl hin rfl (by decide +kernel) rfl rfl (Nat.le_of_ble_eq_true rfl) dX0_init_79 (fun H locs hP hD hS => ?_)
  have hP : va_P D vwCl [(h0, .inr (0, [.ref a0, .ref a1, .ref a2, .int 0, .int 0, .int 0, .ref a3, .ref a4, .ref a5, .ref a6, .ref a7, .ref a8, .null, .null, .null, .int 0])), (a0, .inl (c0, 6, .inl (fun _ => nI 0))), (a1, .inl (c1, 6, .inl (fun _ => 0))), (a2, .inl (c2, 6, .inl (fun _ => 0))), (a3, .inl (c3, 512, .inl (fun _ => nI 0))), (a4, .inl (c4, 512, .inl (fun _ => 0))), (a5, .inl (c5, 512, .inl (fun _ => 0))), (a6, .inl (c6, 512, .inl (fun _ => nI 0))), (a7, .inl (c7, 512, .inl (fun _ => nI 0))), (a8, .inl (c8, 512, .inl (fun _ => nI 0)))] H := hP
  have hD : va_D A [(h0, .inr (0, [.ref a0, .ref a1, .ref a2, .int 0, .int 0, .int 0, .ref a3, .ref a4, .ref a5, .ref a6, .ref a7, .ref a8, .null, .null, .null, .int 0])), (a0, .inl (c0, 6, .inl (fun _ => nI 0))), (a1, .inl (c1, 6, .inl (fun _ => 0))), (a2, .inl (c2, 6, .inl (fun _ => 0))), (a3, .inl (c3, 512, .inl (fun _ => nI 0))), (a4, .inl (c4, 512, .inl (fun _ => 0))), (a5, .inl (c5, 512, .inl (fun _ => 0))), (a6, .inl (c6, 512, .inl (fun _ => nI 0))), (a7, .inl (c7, 512, .inl (fun _ => nI 0))), (a8, .inl (c8, 512, .inl (fun _ => nI 0)))] := hD
  refine lv_aload_n hx hb dX0_init_82 rfl (lv_at hl 0 rfl) ?_
  refine lv_sipush (v := 512) hx hb dX0_init_83 (by decide) ?_
  refine va_newa (atype := .short) (ty := .short) (a0 := (512, .inl (fun _ => 0))) hx hb (hts _ q90) rfl hK hP hD hS hA (fun _ => rfl) (by decide) (by decide) (by decide) (Nat.le_of_ble_eq_true rfl) (Nat.le_of_ble_eq_true rfl) dX0_init_86 (fun a9 c9 H hK hP hD hS => ?_)
  have hK : va_K D vwCl [(c0, .byte), (c1, .int), (c2, .int), (c3, .byte), (c4, .int), (c5, .int), (c6, .short), (c7, .short), (c8, .boolean), (c9, .short)] s := hK
  have hP : va_P D vwCl [(h0, .inr (0, [.ref a0, .ref a1, .ref a2, .int 0, .int 0, .int 0, .ref a3, .ref a4, .ref a5, .ref a6, .ref a7, .ref a8, .null, .null, .null, .int 0])), (a0, .inl (c0, 6, .inl (fun _ => nI 0))), (a1, .inl (c1, 6, .inl (fun _ => 0))), (a2, .inl (c2, 6, .inl (fun _ => 0))), (a3, .inl (c3, 512, .inl (fun _ => nI 0))), (a4, .inl (c4, 512, .inl (fun _ => 0))), (a5, .inl (c5, 512, .inl (fun _ => 0))), (a6, .inl (c6, 512, .inl (fun _ => nI 0))), (a7, .inl (c7, 512, .inl (fun _ => nI 0))), (a8, .inl (c8, 512, .inl (fun _ => nI 0))), (a9, .inl (c9, 512, .inl (fun _ => 0)))] H := hP
  have hD : va_D A [(h0, .inr (0, [.ref a0, .ref a1, .ref a2, .int 0, .int 0, .int 0, .ref a3, .ref a4, .ref a5, .ref a6, .ref a7, .ref a8, .null, .null, .null, .int 0])), (a0, .inl (c0, 6, .inl (fun _ => nI 0))), (a1, .inl (c1, 6, .inl (fun _ => 0))), (a2, .inl (c2, 6, .inl (fun _ => 0))), (a3, .inl (c3, 512, .inl (fun _ => nI 0))), (a4, .inl (c4, 512, .inl (fun _ => 0))), (a5, .inl (c5, 512, .inl (fun _ => 0))), (a6, .inl (c6, 512, .inl (fun _ => nI 0))), (a7, .inl (c7, 512, .inl (fun _ => nI 0))), (a8, .inl (c8, 512, .inl (fun _ => nI 0))), (a9, .inl (c9, 512, .inl (fun _ => 0)))] := hD
  refine W.widen (k := 10) (n := 3602) (Nat.le_of_ble_eq_true rfl) (Nat.le_of_ble_eq_true rfl) ?_
  refine va_putF (D := D) (ci := 0) (v := .ref a9) (ty := .array .short) (C := RX0) (T := TX0) (N := 16) hx hb hts in_X0 tyX0 tyX0_ok nmX0 hown hK hP hD hS 0 rfl rfl 12 (by decide) (hts _ q51) (fun _ h9 => h9) rfl hin rfl (by decide +kernel) rfl rfl (Nat.le_of_ble_eq_true rfl) dX0_init_88 (fun H locs hP hD hS => ?_)
  have hP : va_P D vwCl [(h0, .inr (0, [.ref a0, .ref a1, .ref a2, .int 0, .int 0, .int 0, .ref a3, .ref a4, .ref a5, .ref a6, .ref a7, .ref a8, .ref a9, .null, .null, .int 0])), (a0, .inl (c0, 6, .inl (fun _ => nI 0))), (a1, .inl (c1, 6, .inl (fun _ => 0))), (a2, .inl (c2, 6, .inl (fun _ => 0))), (a3, .inl (c3, 512, .inl (fun _ => nI 0))), (a4, .inl (c4, 512, .inl (fun _ => 0))), (a5, .inl (c5, 512, .inl (fun _ => 0))), (a6, .inl (c6, 512, .inl (fun _ => nI 0))), (a7, .inl (c7, 512, .inl (fun _ => nI 0))), (a8, .inl (c8, 512, .inl (fun _ => nI 0))), (a9, .inl (c9, 512, .inl (fun _ => 0)))] H := hP
  have hD : va_D A [(h0, .inr (0, [.ref a0, .ref a1, .ref a2, .int 0, .int 0, .int 0, .ref a3, .ref a4, .ref a5, .ref a6, .ref a7, .ref a8, .ref a9, .null, .null, .int 0])), (a0, .inl (c0, 6, .inl (fun _ => nI 0))), (a1, .inl (c1, 6, .inl (fun _ => 0))), (a2, .inl (c2, 6, .inl (fun _ => 0))), (a3, .inl (c3, 512, .inl (fun _ => nI 0))), (a4, .inl (c4, 512, .inl (fun _ => 0))), (a5, .inl (c5, 512, .inl (fun _ => 0))), (a6, .inl (c6, 512, .inl (fun _ => nI 0))), (a7, .inl (c7, 512, .inl (fun _ => nI 0))), (a8, .inl (c8, 512, .inl (fun _ => nI 0))), (a9, .inl (c9, 512, .inl (fun _ => 0)))] := hD
  refine lv_aload_n hx hb dX0_init_91 rfl (lv_at hl 0 rfl) ?_
  refine lv_bipush (v := 6) hx hb dX0_init_92 (by decide) ?_
  refine va_newa (atype := .short) (ty := .short) (a0 := (6, .inl (fun _ => nI 0))) hx hb (hts _ q90) rfl hK hP hD hS hA (fun _ => rfl) (by decide) (by decide) (by decide) (Nat.le_of_ble_eq_true rfl) (Nat.le_of_ble_eq_true rfl) dX0_init_94 (fun a10 c10 H hK hP hD hS => ?_)
  have hK : va_K D vwCl [(c0, .byte), (c1, .int), (c2, .int), (c3, .byte), (c4, .int), (c5, .int), (c6, .short), (c7, .short), (c8, .boolean), (c9, .short), (c10, .short)] s := hK
  have hP : va_P D vwCl [(h0, .inr (0, [.ref a0, .ref a1, .ref a2, .int 0, .int 0, .int 0, .ref a3, .ref a4, .ref a5, .ref a6, .ref a7, .ref a8, .ref a9, .null, .null, .int 0])), (a0, .inl (c0, 6, .inl (fun _ => nI 0))), (a1, .inl (c1, 6, .inl (fun _ => 0))), (a2, .inl (c2, 6, .inl (fun _ => 0))), (a3, .inl (c3, 512, .inl (fun _ => nI 0))), (a4, .inl (c4, 512, .inl (fun _ => 0))), (a5, .inl (c5, 512, .inl (fun _ => 0))), (a6, .inl (c6, 512, .inl (fun _ => nI 0))), (a7, .inl (c7, 512, .inl (fun _ => nI 0))), (a8, .inl (c8, 512, .inl (fun _ => nI 0))), (a9, .inl (c9, 512, .inl (fun _ => 0))), (a10, .inl (c10, 6, .inl (fun _ => nI 0)))] H := hP
  have hD : va_D A [(h0, .inr (0, [.ref a0, .ref a1, .ref a2, .int 0, .int 0, .int 0, .ref a3, .ref a4, .ref a5, .ref a6, .ref a7, .ref a8, .ref a9, .null, .null, .int 0])), (a0, .inl (c0, 6, .inl (fun _ => nI 0))), (a1, .inl (c1, 6, .inl (fun _ => 0))), (a2, .inl (c2, 6, .inl (fun _ => 0))), (a3, .inl (c3, 512, .inl (fun _ => nI 0))), (a4, .inl (c4, 512, .inl (fun _ => 0))), (a5, .inl (c5, 512, .inl (fun _ => 0))), (a6, .inl (c6, 512, .inl (fun _ => nI 0))), (a7, .inl (c7, 512, .inl (fun _ => nI 0))), (a8, .inl (c8, 512, .inl (fun _ => nI 0))), (a9, .inl (c9, 512, .inl (fun _ => 0))), (a10, .inl (c10, 6, .inl (fun _ => nI 0)))] := hD
  refine W.widen (k := 11) (n := 3608) (Nat.le_of_ble_eq_true rfl) (Nat.le_of_ble_eq_true rfl) ?_
  refine va_putF (D := D) (ci := 0) (v := .ref a10) (ty := .array .short) (C := RX0) (T := TX0) (N := 16) hx hb hts in_X0 tyX0 tyX0_ok nmX0 hown hK hP hD hS 0 rfl rfl 13 (by decide) (hts _ q52) (fun _ h9 => h9) rfl hin rfl (by decide +kernel) rfl rfl (Nat.le_of_ble_eq_true rfl) dX0_init_96 (fun H locs hP hD hS => ?_)
  have hP : va_P D vwCl [(h0, .inr (0, [.ref a0, .ref a1, .ref a2, .int 0, .int 0, .int 0, .ref a3, .ref a4, .ref a5, .ref a6, .ref a7, .ref a8, .ref a9, .ref a10, .null, .int 0])), (a0, .inl (c0, 6, .inl (fun _ => nI 0))), (a1, .inl (c1, 6, .inl (fun _ => 0))), (a2, .inl (c2, 6, .inl (fun _ => 0))), (a3, .inl (c3, 512, .inl (fun _ => nI 0))), (a4, .inl (c4, 512, .inl (fun _ => 0))), (a5, .inl (c5, 512, .inl (fun _ => 0))), (a6, .inl (c6, 512, .inl (fun _ => nI 0))), (a7, .inl (c7, 512, .inl (fun _ => nI 0))), (a8, .inl (c8, 512, .inl (fun _ => nI 0))), (a9, .inl (c9, 512, .inl (fun _ => 0))), (a10, .inl (c10, 6, .inl (fun _ => nI 0)))] H := hP
  have hD : va_D A [(h0, .inr (0, [.ref a0, .ref a1, .ref a2, .int 0, .int 0, .int 0, .ref a3, .ref a4, .ref a5, .ref a6, .ref a7, .ref a8, .ref a9, .ref a10, .null, .int 0])), (a0, .inl (c0, 6, .inl (fun _ => nI 0))), (a1, .inl (c1, 6, .inl (fun _ => 0))), (a2, .inl (c2, 6, .inl (fun _ => 0))), (a3, .inl (c3, 512, .inl (fun _ => nI 0))), (a4, .inl (c4, 512, .inl (fun _ => 0))), (a5, .inl (c5, 512, .inl (fun _ => 0))), (a6, .inl (c6, 512, .inl (fun _ => nI 0))), (a7, .inl (c7, 512, .inl (fun _ => nI 0))), (a8, .inl (c8, 512, .inl (fun _ => nI 0))), (a9, .inl (c9, 512, .inl (fun _ => 0))), (a10, .inl (c10, 6, .inl (fun _ => nI 0)))] := hD
  refine lv_aload_n hx hb dX0_init_99 rfl (lv_at hl 0 rfl) ?_
  refine lv_bipush (v := 16) hx hb dX0_init_100 (by decide) ?_
  refine va_newa (atype := .short) (ty := .short) (a0 := (16, .inl (fun _ => nI 0))) hx hb (hts _ q90) rfl hK hP hD hS hA (fun _ => rfl) (by decide) (by decide) (by decide) (Nat.le_of_ble_eq_true rfl) (Nat.le_of_ble_eq_true rfl) dX0_init_102 (fun a11 c11 H hK hP hD hS => ?_)
  have hK : va_K D vwCl [(c0, .byte), (c1, .int), (c2, .int), (c3, .byte), (c4, .int), (c5, .int), (c6, .short), (c7, .short), (c8, .boolean), (c9, .short), (c10, .short), (c11, .short)] s := hK
  have hP : va_P D vwCl [(h0, .inr (0, [.ref a0, .ref a1, .ref a2, .int 0, .int 0, .int 0, .ref a3, .ref a4, .ref a5, .ref a6, .ref a7, .ref a8, .ref a9, .ref a10, .null, .int 0])), (a0, .inl (c0, 6, .inl (fun _ => nI 0))), (a1, .inl (c1, 6, .inl (fun _ => 0))), (a2, .inl (c2, 6, .inl (fun _ => 0))), (a3, .inl (c3, 512, .inl (fun _ => nI 0))), (a4, .inl (c4, 512, .inl (fun _ => 0))), (a5, .inl (c5, 512, .inl (fun _ => 0))), (a6, .inl (c6, 512, .inl (fun _ => nI 0))), (a7, .inl (c7, 512, .inl (fun _ => nI 0))), (a8, .inl (c8, 512, .inl (fun _ => nI 0))), (a9, .inl (c9, 512, .inl (fun _ => 0))), (a10, .inl (c10, 6, .inl (fun _ => nI 0))), (a11, .inl (c11, 16, .inl (fun _ => nI 0)))] H := hP
  have hD : va_D A [(h0, .inr (0, [.ref a0, .ref a1, .ref a2, .int 0, .int 0, .int 0, .ref a3, .ref a4, .ref a5, .ref a6, .ref a7, .ref a8, .ref a9, .ref a10, .null, .int 0])), (a0, .inl (c0, 6, .inl (fun _ => nI 0))), (a1, .inl (c1, 6, .inl (fun _ => 0))), (a2, .inl (c2, 6, .inl (fun _ => 0))), (a3, .inl (c3, 512, .inl (fun _ => nI 0))), (a4, .inl (c4, 512, .inl (fun _ => 0))), (a5, .inl (c5, 512, .inl (fun _ => 0))), (a6, .inl (c6, 512, .inl (fun _ => nI 0))), (a7, .inl (c7, 512, .inl (fun _ => nI 0))), (a8, .inl (c8, 512, .inl (fun _ => nI 0))), (a9, .inl (c9, 512, .inl (fun _ => 0))), (a10, .inl (c10, 6, .inl (fun _ => nI 0))), (a11, .inl (c11, 16, .inl (fun _ => nI 0)))] := hD
  refine W.widen (k := 12) (n := 3624) (Nat.le_of_ble_eq_true rfl) (Nat.le_of_ble_eq_true rfl) ?_
  refine va_putF (D := D) (ci := 0) (v := .ref a11) (ty := .array .short) (C := RX0) (T := TX0) (N := 16) hx hb hts in_X0 tyX0 tyX0_ok nmX0 hown hK hP hD hS 0 rfl rfl 14 (by decide) (hts _ q53) (fun _ h9 => h9) rfl hin rfl (by decide +kernel) rfl rfl (Nat.le_of_ble_eq_true rfl) dX0_init_104 (fun H locs hP hD hS => ?_)
  have hP : va_P D vwCl [(h0, .inr (0, [.ref a0, .ref a1, .ref a2, .int 0, .int 0, .int 0, .ref a3, .ref a4, .ref a5, .ref a6, .ref a7, .ref a8, .ref a9, .ref a10, .ref a11, .int 0])), (a0, .inl (c0, 6, .inl (fun _ => nI 0))), (a1, .inl (c1, 6, .inl (fun _ => 0))), (a2, .inl (c2, 6, .inl (fun _ => 0))), (a3, .inl (c3, 512, .inl (fun _ => nI 0))), (a4, .inl (c4, 512, .inl (fun _ => 0))), (a5, .inl (c5, 512, .inl (fun _ => 0))), (a6, .inl (c6, 512, .inl (fun _ => nI 0))), (a7, .inl (c7, 512, .inl (fun _ => nI 0))), (a8, .inl (c8, 512, .inl (fun _ => nI 0))), (a9, .inl (c9, 512, .inl (fun _ => 0))), (a10, .inl (c10, 6, .inl (fun _ => nI 0))), (a11, .inl (c11, 16, .inl (fun _ => nI 0)))] H := hP
  have hD : va_D A [(h0, .inr (0, [.ref a0, .ref a1, .ref a2, .int 0, .int 0, .int 0, .ref a3, .ref a4, .ref a5, .ref a6, .ref a7, .ref a8, .ref a9, .ref a10, .ref a11, .int 0])), (a0, .inl (c0, 6, .inl (fun _ => nI 0))), (a1, .inl (c1, 6, .inl (fun _ => 0))), (a2, .inl (c2, 6, .inl (fun _ => 0))), (a3, .inl (c3, 512, .inl (fun _ => nI 0))), (a4, .inl (c4, 512, .inl (fun _ => 0))), (a5, .inl (c5, 512, .inl (fun _ => 0))), (a6, .inl (c6, 512, .inl (fun _ => nI 0))), (a7, .inl (c7, 512, .inl (fun _ => nI 0))), (a8, .inl (c8, 512, .inl (fun _ => nI 0))), (a9, .inl (c9, 512, .inl (fun _ => 0))), (a10, .inl (c10, 6, .inl (fun _ => nI 0))), (a11, .inl (c11, 16, .inl (fun _ => nI 0)))] := hD
  exact W.vret hx hb hr (fun t ht hW => ⟨⟨(fun k => ([h0, a0, a1, a2, a3, a4, a5, a6, a7, a8, a9, a10, a11] : List Nat).getD k 0, fun k => ([c0, c1, c2, c3, c4, c5, c6, c7, c8, c9, c10, c11] : List ClassId).getD k 0), rfl, rfl, by rw [ht]; exact hP, va_K.moved hW.alike hK, hD⟩, hS.F ht⟩) hS.2.2 dX0_init_107
def m0 : mS := (fun _ => 0, fun _ => 0, fun _ => 0, fun _ => 0, fun _ => 0, 0, 0)
set_option maxHeartbeats 4000000 in
set_option maxRecDepth 100000 in
/-- the constructor: 5 new arrays, all zero -/
theorem m_init (l : Launch) (D : va_G) (h0 sz : Nat) : Met l yX1_init (ws_ yX1_init cX1_init 1 none) ({ frames := 1, cells := 5, slots := 270, locals := 12 }) (va_Pc [.ref h0] (cx_Pre D [] [(h0, .inr (1, [.null, .null, .null, .null, .null, .int 0, .int 0]))] sz)) (va_Qv (fun u : (Nat → Nat) × (Nat → ClassId) => u.1 0 = h0) (fun u t => va_P D vwCl (mW u.1 u.2 m0) t.heap ∧ va_K D vwCl (mT u.2) t ∧ va_D (va_A [(h0, .inr (1, [.null, .null, .null, .null, .null, .int 0, .int 0]))] sz) (mW u.1 u.2 m0)) (va_A [(h0, .inr (1, [.null, .null, .null, .null, .null, .int 0, .int 0]))] sz)) 5 270 (va_A [(h0, .inr (1, [.null, .null, .null, .null, .null, .int 0, .int 0]))] sz) := by
  refine Met.ofW (cc := cX1_init) (maxL := 1) (ret := none) (by decide) rfl ?_
  intro p e s m args below meth c s₁ B hml hv
  obtain ⟨rfl, hsz, hP, hK, hD0⟩ := hv
  have hx := B.exec
  have hb := B.bytes
  have hr := B.returns
  have hts := atoms_spec (ws := ws_ yX1_init cX1_init 1 none) B.pre
  have hts : ∀ w ∈ lw_all, w.before _ s = true := fun w h => hts w (List.mem_cons_of_mem _ h)
  have hown : s.vm.findClass RX1 = some m.cls := findClass_of_methodNamed B.named
  have hlocks := B.notSynchronized
  have hin : meth.name = "<init>" := (name_of_methodNamed B.named B.method).1
  subst hsz
  have hD := hD0.self (sz := s.heap.size)
  generalize hAe : va_A [(h0, .inr (1, [.null, .null, .null, .null, .null, .int 0, .int 0]))] s.heap.size = A at hD ⊢
  have hA : ∀ q : Nat, s.heap.size ≤ q → A q := fun q h => by rw [← hAe]; exact Or.inr h
  have hS : va_S A s.heap s.heap [] := va_S.rf
  have hP : va_P D vwCl [(h0, .inr (1, [.null, .null, .null, .null, .null, .int 0, .int 0]))] s.heap := hP
  have hl := lv_entry ([.ref h0]) (n := 1) (Nat.le_of_ble_eq_true rfl)
  rw [lg_entry_eq]
  generalize (lg_sl ([.ref h0]) ++ List.replicate (1 - (lg_sl ([.ref h0])).length) Slot.unset).toArray = ls at hl ⊢
  have hl : lv_has ls 1 [(0, .ref h0)] := hl
  refine lv_aload_n hx hb dX1_init_0 rfl (lv_at hl 0 rfl) ?_
  refine W.objInit hx hb hown (hts _ q197) (hts _ q37) (hts _ q38) rfl (by rw [hml]; exact hl.1) rfl dX1_init_1 (Nat.le_of_ble_eq_true rfl) (Nat.le_of_ble_eq_true rfl) ?_
  refine W.eq (g2 := F0 m 4 ls []) rfl ?_
  refine lv_aload_n hx hb dX1_init_4 rfl (lv_at hl 0 rfl) ?_
  refine lv_bipush (v := 6) hx hb dX1_init_5 (by decide) ?_
  refine va_newa (atype := .int) (ty := .int) (a0 := (6, .inl (fun _ => nI 0))) hx hb (hts _ q89) rfl hK hP hD hS hA (fun _ => rfl) (by decide) (by decide) (by decide) (Nat.le_of_ble_eq_true rfl) (Nat.le_of_ble_eq_true rfl) dX1_init_7 (fun a0 c0 H hK hP hD hS => ?_)
  have hK : va_K D vwCl [(c0, .int)] s := hK
  have hP : va_P D vwCl [(h0, .inr (1, [.null, .null, .null, .null, .null, .int 0, .int 0])), (a0, .inl (c0, 6, .inl (fun _ => nI 0)))] H := hP
  have hD : va_D A [(h0, .inr (1, [.null, .null, .null, .null, .null, .int 0, .int 0])), (a0, .inl (c0, 6, .inl (fun _ => nI 0)))] := hD
  refine W.widen (k := 1) (n := 6) (Nat.le_of_ble_eq_true rfl) (Nat.le_of_ble_eq_true rfl) ?_
  refine va_put (D := D) (ci := 1) (v := .ref a0) (ty := .array .int) (C := RX1) (T := TX1) (N := 7) hx hb hts in_X1 tyX1 tyX1_ok nmX1 hown hK hP hD hS 0 rfl rfl 0 (by decide) (hts _ q198) (fun _ h9 => h9) rfl (by decide +kernel) rfl rfl (Nat.le_of_ble_eq_true rfl) dX1_init_9 (fun H locs hP hD hS => ?_)
  have hP : va_P D vwCl [(h0, .inr (1, [.ref a0, .null, .null, .null, .null, .int 0, .int 0])), (a0, .inl (c0, 6, .inl (fun _ => nI 0)))] H := hP
  have hD : va_D A [(h0, .inr (1, [.ref a0, .null, .null, .null, .null, .int 0, .int 0])), (a0, .inl (c0, 6, .inl (fun _ => nI 0)))] := hD
  refine lv_aload_n hx hb dX1_init_12 rfl (lv_at hl 0 rfl) ?_
  refine lv_bipush (v := 6) hx hb dX1_init_13 (by decide) ?_
  refine va_newa (atype := .int) (ty := .int) (a0 := (6, .inl (fun _ => 0))) hx hb (hts _ q89) rfl hK hP hD hS hA (fun _ => rfl) (by decide) (by decide) (by decide) (Nat.le_of_ble_eq_true rfl) (Nat.le_of_ble_eq_true rfl) dX1_init_15 (fun a1 c1 H hK hP hD hS => ?_)
  have hK : va_K D vwCl [(c0, .int), (c1, .int)] s := hK
  have hP : va_P D vwCl [(h0, .inr (1, [.ref a0, .null, .null, .null, .null, .int 0, .int 0])), (a0, .inl (c0, 6, .inl (fun _ => nI 0))), (a1, .inl (c1, 6, .inl (fun _ => 0)))] H := hP
  have hD : va_D A [(h0, .inr (1, [.ref a0, .null, .null, .null, .null, .int 0, .int 0])), (a0, .inl (c0, 6, .inl (fun _ => nI 0))), (a1, .inl (c1, 6, .inl (fun _ => 0)))] := hD
  refine W.widen (k := 2) (n := 12) (Nat.le_of_ble_eq_true rfl) (Nat.le_of_ble_eq_true rfl) ?_
  refine va_put (D := D) (ci := 1) (v := .ref a1) (ty := .array .int) (C := RX1) (T := TX1) (N := 7) hx hb hts in_X1 tyX1 tyX1_ok nmX1 hown hK hP hD hS 0 rfl rfl 1 (by decide) (hts _ q199) (fun _ h9 => h9) rfl (by decide +kernel) rfl rfl (Nat.le_of_ble_eq_true rfl) dX1_init_17 (fun H locs hP hD hS => ?_)
  have hP : va_P D vwCl [(h0, .inr (1, [.ref a0, .ref a1, .null, .null, .null, .int 0, .int 0])), (a0, .inl (c0, 6, .inl (fun _ => nI 0))), (a1, .inl (c1, 6, .inl (fun _ => 0)))] H := hP
  have hD : va_D A [(h0, .inr (1, [.ref a0, .ref a1, .null, .null, .null, .int 0, .int 0])), (a0, .inl (c0, 6, .inl (fun _ => nI 0))), (a1, .inl (c1, 6, .inl (fun _ => 0)))] := hD
  refine lv_aload_n hx hb dX1_init_20 rfl (lv_at hl 0 rfl) ?_
  refine lv_bipush (v := 6) hx hb dX1_init_21 (by decide) ?_
  refine va_newa (atype := .int) (ty := .int) (a0 := (6, .inl (fun _ => 0))) hx hb (hts _ q89) rfl hK hP hD hS hA (fun _ => rfl) (by decide) (by decide) (by decide) (Nat.le_of_ble_eq_true rfl) (Nat.le_of_ble_eq_true rfl) dX1_init_23 (fun a2 c2 H hK hP hD hS => ?_)
  have hK : va_K D vwCl [(c0, .int), (c1, .int), (c2, .int)] s := hK
  have hP : va_P D vwCl [(h0, .inr (1, [.ref a0, .ref a1, .null, .null, .null, .int 0, .int 0])), (a0, .inl (c0, 6, .inl (fun _ => nI 0))), (a1, .inl (c1, 6, .inl (fun _ => 0))), (a2, .inl (c2, 6, .inl (fun _ => 0)))] H := hP
  have hD : va_D A [(h0, .inr (1, [.ref a0, .ref a1, .null, .null, .null, .int 0, .int 0])), (a0, .inl (c0, 6, .inl (fun _ => nI 0))), (a1, .inl (c1, 6, .inl (fun _ => 0))), (a2, .inl (c2, 6, .inl (fun _ => 0)))] := hD
  refine W.widen (k := 3) (n := 18) (Nat.le_of_ble_eq_true rfl) (Nat.le_of_ble_eq_true rfl) ?_
  refine va_put (D := D) (ci := 1) (v := .ref a2) (ty := .array .int) (C := RX1) (T := TX1) (N := 7) hx hb hts in_X1 tyX1 tyX1_ok nmX1 hown hK hP hD hS 0 rfl rfl 2 (by decide) (hts _ q200) (fun _ h9 => h9) rfl (by decide +kernel) rfl rfl (Nat.le_of_ble_eq_true rfl) dX1_init_25 (fun H locs hP hD hS => ?_)
  have hP : va_P D vwCl [(h0, .inr (1, [.ref a0, .ref a1, .ref a2, .null, .null, .int 0, .int 0])), (a0, .inl (c0, 6, .inl (fun _ => nI 0))), (a1, .inl (c1, 6, .inl (fun _ => 0))), (a2, .inl (c2, 6, .inl (fun _ => 0)))] H := hP
  have hD : va_D A [(h0, .inr (1, [.ref a0, .ref a1, .ref a2, .null, .null, .int 0, .int 0])), (a0, .inl (c0, 6, .inl (fun _ => nI 0))), (a1, .inl (c1, 6, .inl (fun _ => 0))), (a2, .inl (c2, 6, .inl (fun _ => 0)))] := hD
  refine lv_aload_n hx hb dX1_init_28 rfl (lv_at hl 0 rfl) ?_
  refine lv_bipush (v := 126) hx hb dX1_init_29 (by decide) ?_
  refine va_newa (atype := .boolean) (ty := .boolean) (a0 := (126, .inl (fun _ => nI 0))) hx hb (hts _ q91) rfl hK hP hD hS hA (fun _ => rfl) (by decide) (by decide) (by decide) (Nat.le_of_ble_eq_true rfl) (Nat.le_of_ble_eq_true rfl) dX1_init_31 (fun a3 c3 H hK hP hD hS => ?_)
  have hK : va_K D vwCl [(c0, .int), (c1, .int), (c2, .int), (c3, .boolean)] s := hK
  have hP : va_P D vwCl [(h0, .inr (1, [.ref a0, .ref a1, .ref a2, .null, .null, .int 0, .int 0])), (a0, .inl (c0, 6, .inl (fun _ => nI 0))), (a1, .inl (c1, 6, .inl (fun _ => 0))), (a2, .inl (c2, 6, .inl (fun _ => 0))), (a3, .inl (c3, 126, .inl (fun _ => nI 0)))] H := hP
  have hD : va_D A [(h0, .inr (1, [.ref a0, .ref a1, .ref a2, .null, .null, .int 0, .int 0])), (a0, .inl (c0, 6, .inl (fun _ => nI 0))), (a1, .inl (c1, 6, .inl (fun _ => 0))), (a2, .inl (c2, 6, .inl (fun _ => 0))), (a3, .inl (c3, 126, .inl (fun _ => nI 0)))] := hD
  refine W.widen (k := 4) (n := 144) (Nat.le_of_ble_eq_true rfl) (Nat.le_of_ble_eq_true rfl) ?_
  refine va_put (D := D) (ci := 1) (v := .ref a3) (ty := .array .boolean) (C := RX1) (T := TX1) (N := 7) hx hb hts in_X1 tyX1 tyX1_ok nmX1 hown hK hP hD hS 0 rfl rfl 3 (by decide) (hts _ q201) (fun _ h9 => h9) rfl (by decide +kernel) rfl rfl (Nat.le_of_ble_eq_true rfl) dX1_init_33 (fun H locs hP hD hS => ?_)
  have hP : va_P D vwCl [(h0, .inr (1, [.ref a0, .ref a1, .ref a2, .ref a3, .null, .int 0, .int 0])), (a0, .inl (c0, 6, .inl (fun _ => nI 0))), (a1, .inl (c1, 6, .inl (fun _ => 0))), (a2, .inl (c2, 6, .inl (fun _ => 0))), (a3, .inl (c3, 126, .inl (fun _ => nI 0)))] H := hP
  have hD : va_D A [(h0, .inr (1, [.ref a0, .ref a1, .ref a2, .ref a3, .null, .int 0, .int 0])), (a0, .inl (c0, 6, .inl (fun _ => nI 0))), (a1, .inl (c1, 6, .inl (fun _ => 0))), (a2, .inl (c2, 6, .inl (fun _ => 0))), (a3, .inl (c3, 126, .inl (fun _ => nI 0)))] := hD
  refine lv_aload_n hx hb dX1_init_36 rfl (lv_at hl 0 rfl) ?_
  refine lv_bipush (v := 126) hx hb dX1_init_37 (by decide) ?_
  refine va_newa (atype := .int) (ty := .int) (a0 := (126, .inl (fun _ => 0))) hx hb (hts _ q89) rfl hK hP hD hS hA (fun _ => rfl) (by decide) (by decide) (by decide) (Nat.le_of_ble_eq_true rfl) (Nat.le_of_ble_eq_true rfl) dX1_init_39 (fun a4 c4 H hK hP hD hS => ?_)
  have hK : va_K D vwCl [(c0, .int), (c1, .int), (c2, .int), (c3, .boolean), (c4, .int)] s := hK
  have hP : va_P D vwCl [(h0, .inr (1, [.ref a0, .ref a1, .ref a2, .ref a3, .null, .int 0, .int 0])), (a0, .inl (c0, 6, .inl (fun _ => nI 0))), (a1, .inl (c1, 6, .inl (fun _ => 0))), (a2, .inl (c2, 6, .inl (fun _ => 0))), (a3, .inl (c3, 126, .inl (fun _ => nI 0))), (a4, .inl (c4, 126, .inl (fun _ => 0)))] H := hP
  have hD : va_D A [(h0, .inr (1, [.ref a0, .ref a1, .ref a2, .ref a3, .null, .int 0, .int 0])), (a0, .inl (c0, 6, .inl (fun _ => nI 0))), (a1, .inl (c1, 6, .inl (fun _ => 0))), (a2, .inl (c2, 6, .inl (fun _ => 0))), (a3, .inl (c3, 126, .inl (fun _ => nI 0))), (a4, .inl (c4, 126, .inl (fun _ => 0)))] := hD
  refine W.widen (k := 5) (n := 270) (Nat.le_of_ble_eq_true rfl) (Nat.le_of_ble_eq_true rfl) ?_
  refine va_put (D := D) (ci := 1) (v := .ref a4) (ty := .array .int) (C := RX1) (T := TX1) (N := 7) hx hb hts in_X1 tyX1 tyX1_ok nmX1 hown hK hP hD hS 0 rfl rfl 4 (by decide) (hts _ q202) (fun _ h9 => h9) rfl (by decide +kernel) rfl rfl (Nat.le_of_ble_eq_true rfl) dX1_init_41 (fun H locs hP hD hS => ?_)
  have hP : va_P D vwCl [(h0, .inr (1, [.ref a0, .ref a1, .ref a2, .ref a3, .ref a4, .int 0, .int 0])), (a0, .inl (c0, 6, .inl (fun _ => nI 0))), (a1, .inl (c1, 6, .inl (fun _ => 0))), (a2, .inl (c2, 6, .inl (fun _ => 0))), (a3, .inl (c3, 126, .inl (fun _ => nI 0))), (a4, .inl (c4, 126, .inl (fun _ => 0)))] H := hP
  have hD : va_D A [(h0, .inr (1, [.ref a0, .ref a1, .ref a2, .ref a3, .ref a4, .int 0, .int 0])), (a0, .inl (c0, 6, .inl (fun _ => nI 0))), (a1, .inl (c1, 6, .inl (fun _ => 0))), (a2, .inl (c2, 6, .inl (fun _ => 0))), (a3, .inl (c3, 126, .inl (fun _ => nI 0))), (a4, .inl (c4, 126, .inl (fun _ => 0)))] := hD
  exact W.vret hx hb hr (fun t ht hW => ⟨⟨(fun k => ([h0, a0, a1, a2, a3, a4] : List Nat).getD k 0, fun k => ([c0, c1, c2, c3, c4] : List ClassId).getD k 0), rfl, rfl, by rw [ht]; exact hP, va_K.moved hW.alike hK, hD⟩, hS.F ht⟩) hS.2.2 dX1_init_44
end
section
/-! FOR THE LAW: two objects side by side; answers that say the same are the same -/
theorem cl_P1 {D : va_G} {cl : List vw_C} {w1 w2 : va_W} {H : Heap} (h : va_P D cl (w1 ++ w2) H) : va_P D cl w1 H := fun k q hq => h k q (by rw [List.getElem?_append_left (List.getElem?_eq_some_iff.mp hq).1]; exact hq)
theorem cl_at2 {w1 w2 : va_W} {k : Nat} {q : Nat × va_E} (hq : w2[k]? = some q) : (w1 ++ w2)[w1.length + k]? = some q := by
  rw [List.getElem?_append_right (by omega), Nat.add_sub_cancel_left]
  exact hq
theorem cl_at1 {w1 w2 : va_W} {k : Nat} {q : Nat × va_E} (hq : w1[k]? = some q) : (w1 ++ w2)[k]? = some q := by
  rw [List.getElem?_append_left (List.getElem?_eq_some_iff.mp hq).1]
  exact hq
theorem cl_P2 {D : va_G} {cl : List vw_C} {w1 w2 : va_W} {H : Heap} (h : va_P D cl (w1 ++ w2) H) : va_P D cl w2 H := fun _ q hq => h _ q (cl_at2 hq)
theorem cl_D1 {A : Nat → Prop} {w1 w2 : va_W} (h : va_D A (w1 ++ w2)) : va_D A w1 := ⟨fun i j p q hi hj e => h.1 i j p q (cl_at1 hi) (cl_at1 hj) e, fun k q hk => h.2 k q (cl_at1 hk)⟩
theorem cl_D2 {A : Nat → Prop} {w1 w2 : va_W} (h : va_D A (w1 ++ w2)) : va_D A w2 := ⟨fun i j p q hi hj e => by have := h.1 _ _ p q (cl_at2 hi) (cl_at2 hj) e; omega, fun _ q hk => h.2 _ q (cl_at2 hk)⟩
theorem cl_K1 {D : va_G} {cl : List vw_C} {t1 t2 : List (ClassId × FieldType)} {U : State} (h : va_K D cl (t1 ++ t2) U) : va_K D cl t1 U := ⟨h.1, fun k q hk => h.2 k q (by rw [List.getElem?_append_left (List.getElem?_eq_some_iff.mp hk).1]; exact hk)⟩
theorem cl_K2 {D : va_G} {cl : List vw_C} {t1 t2 : List (ClassId × FieldType)} {U : State} (h : va_K D cl (t1 ++ t2) U) : va_K D cl t2 U := ⟨h.1, fun k q hk => h.2 (t1.length + k) q (by rw [List.getElem?_append_right (by omega), Nat.add_sub_cancel_left]; exact hk)⟩
theorem cl_len {w1 : va_W} {k : Nat} {q : Nat × va_E} (h : w1[k]? = some q) : k < w1.length := (List.getElem?_eq_some_iff.mp h).1
/-- behind a call with the first cells w1: the others are as they were -/
theorem cl_join1 {A0 : Nat → Prop} {D : va_G} {cl : List vw_C} {w1 w1' w2 : va_W} {H H1 : Heap} (hP : va_P D cl (w1 ++ w2) H) (hD : va_D A0 (w1 ++ w2)) (hk : ∀ q : Nat, q < H.size → ¬ va_A w1 H.size q → H1[q]? = H[q]?) (hF : ∀ q, va_A w1 H.size q → A0 q) (hP1 : va_P D cl w1' H1) (hD1 : va_D (va_A w1 H.size) w1') : va_P D cl (w1' ++ w2) H1 ∧ va_D A0 (w1' ++ w2) := by
  have ap : ∀ (k : Nat) (q : Nat × va_E), w2[k]? = some q → q.1 < H.size ∧ ¬ va_A w1 H.size q.1 := by
    intro k q hq
    have hl := (cl_P2 hP k q hq).lt
    refine ⟨hl, fun h => ?_⟩
    rcases h with ⟨k2, e, h⟩ | h
    · have := hD.1 _ _ (q.1, e) q (cl_at1 h) (cl_at2 hq) rfl
      have := cl_len h
      omega
    · omega
  refine ⟨hP1.app (fun k q hq => ?_), va_D.app (hD1.weaken (fun k q _ h => hF q.1 h)) (cl_D2 hD) (fun i j x y hx hy hxy => ?_)⟩
  · exact (cl_P2 hP k q hq).kept (hk q.1 (ap k q hq).1 (ap k q hq).2)
  · exact (ap j y hy).2 (by rw [← hxy]; exact hD1.2 i x hx)
/-- behind a call with the last cells w2 -/
theorem cl_join2 {A0 : Nat → Prop} {D : va_G} {cl : List vw_C} {w1 w2 w2' : va_W} {H H1 : Heap} (hP : va_P D cl (w1 ++ w2) H) (hD : va_D A0 (w1 ++ w2)) (hk : ∀ q : Nat, q < H.size → ¬ va_A w2 H.size q → H1[q]? = H[q]?) (hF : ∀ q, va_A w2 H.size q → A0 q) (hP1 : va_P D cl w2' H1) (hD1 : va_D (va_A w2 H.size) w2') : va_P D cl (w1 ++ w2') H1 ∧ va_D A0 (w1 ++ w2') := by
  have ap : ∀ (k : Nat) (q : Nat × va_E), w1[k]? = some q → q.1 < H.size ∧ ¬ va_A w2 H.size q.1 := by
    intro k q hq
    have hl := (cl_P1 hP k q hq).lt
    refine ⟨hl, fun h => ?_⟩
    rcases h with ⟨k2, e, h⟩ | h
    · have := hD.1 _ _ q (q.1, e) (cl_at1 hq) (cl_at2 h) rfl
      have := cl_len hq
      omega
    · omega
  refine ⟨va_P.app (fun k q hq => ?_) hP1, va_D.app (cl_D1 hD) (hD1.weaken (fun k q _ h => hF q.1 h)) (fun i j x y hx hy hxy => ?_)⟩
  · exact (cl_P1 hP k q hq).kept (hk q.1 (ap k q hq).1 (ap k q hq).2)
  · exact (ap i x hx).2 (by rw [hxy]; exact hD1.2 j y hy)
section
variable {p : Program} {l : Launch} {e : Env} {R : Room} {s : State} {m : MethodId} {args : Array Value} {below : List Frame} {meth : Method} {c : Code} {H : Heap} {locs : List Loc} {cells slots : Nat} {Q : State → Prop}
variable {cc : ByteArray} {pc : Nat} {ls : Array Slot} {rest : List Value} {A : Nat → Prop} {H0 : Heap} {D : va_G} {ad : Nat → Nat} {ct : Nat → ClassId}
variable {S : Type} {wd : (Nat → Nat) → (Nat → ClassId) → S → va_W} {tys : (Nat → ClassId) → List (ClassId × FieldType)} {wo : va_W} {to : List (ClassId × FieldType)}
theorem cl_call1 {own C : String} {T : u_T} {N ci nL index maxL n : Nat} {y : MethodName} {code : ByteArray} {ret : Option FieldType} {rm : Room} {av st0 : List Value} {fs : List Value} {pre : S → Prop} {post : S → Int32 → S → Prop} {u : S} (hM : cx_Mi l y code maxL ret rm wd tys av pre post) (hC : cx_C p m c cc s args own) (hml : c.maxLocals = nL) (hls : ls.size = nL) (hw : cx_W D (tys ct ++ to) A s H0 H locs (wd ad ct u ++ wo)) (hpre : pre u) (cw : CallW R s args own C index y code maxL ret (ws_ y code maxL ret) rm 0 0 n) (hcl : vwCl[ci]? = some (C, T, N)) (he : (wd ad ct u)[0]? = some (ad 0, .inr (ci, fs))) (hn : av.length = n) (hst : st0 = av.reverse ++ .ref (ad 0) :: rest) (hroom : (rest.map fun v => v.category).sum ≤ 8) (hdg : decode cc pc = .ok (.invokevirtual index, 3)) (hf : cells ≤ R.cells ∧ slots ≤ R.slots)
    (kk : ∀ (r : Int32) (u' : S) (H1 : Heap) (locs1 : List Loc), post u r u' → cx_W D (tys ct ++ to) A s H0 H1 locs1 (wd ad ct u' ++ wo) → W p l e R s m args below meth c H1 locs1 cells slots Q (F0 m (pc + 3) ls (.int r :: rest))) : W p l e R s m args below meth c H locs cells slots Q (F0 m pc ls st0) := by
  obtain ⟨hK, hP, hD, hS, hA⟩ := hw
  have hPc := cl_P1 hP
  have hDc := cl_D1 hD
  have hKc := cl_K1 hK
  have hFc : ∀ q, va_A (wd ad ct u) H.size q → A q := fun q h => by
    rcases h with ⟨k, x, h⟩ | h
    · exact hDc.2 k (q, x) h
    · exact hA q (Nat.le_trans hS.1 h)
  refine va_calli (va_runV (As := av) (rest := rest) ⟨hC.1, hC.2.1, hml, hC.2.2.1, hC.2.2.2⟩ (hM D ad ct H.size u hpre) cw ⟨fun a U g mk q => by obtain ⟨q0, q1, qP, qK, qD⟩ := q; exact ⟨q0, q1, qP, va_K.moved (u := U) (U := U.calling g mk a) (Vm.Alike.refl U.vm) qK, qD⟩, va_recv hKc hPc (ci := ci) (q0 := 0) hcl he, fun U hU hW => ⟨rfl, by rw [hU], by rw [hU]; exact hPc, va_K.moved hW.alike hKc, hDc.weaken (fun _ _ _ _ => trivial)⟩⟩ rfl hn hls hst (lv_room hroom) hdg hf) hS (fun q _ h => hFc q h) hFc (fun r u' t H1 locs1 ht hvm hw1 hB hz1 hk1 hS1 => ?_)
  obtain ⟨hP1, hK1, hD1⟩ := hB
  rw [ht] at hP1
  obtain ⟨j1, j2⟩ := cl_join1 hP hD hk1 hFc hP1 hD1
  exact kk r u' H1 locs1 hw1 ⟨hK, j1, j2, hS1, hA⟩
theorem cl_call2 {own C : String} {T : u_T} {N ci nL index maxL n : Nat} {y : MethodName} {code : ByteArray} {ret : Option FieldType} {rm : Room} {av st0 : List Value} {fs : List Value} {pre : S → Prop} {post : S → Int32 → S → Prop} {u : S} (hM : cx_Mi l y code maxL ret rm wd tys av pre post) (hC : cx_C p m c cc s args own) (hml : c.maxLocals = nL) (hls : ls.size = nL) (hw : cx_W D (to ++ tys ct) A s H0 H locs (wo ++ wd ad ct u)) (hpre : pre u) (cw : CallW R s args own C index y code maxL ret (ws_ y code maxL ret) rm 0 0 n) (hcl : vwCl[ci]? = some (C, T, N)) (he : (wd ad ct u)[0]? = some (ad 0, .inr (ci, fs))) (hn : av.length = n) (hst : st0 = av.reverse ++ .ref (ad 0) :: rest) (hroom : (rest.map fun v => v.category).sum ≤ 8) (hdg : decode cc pc = .ok (.invokevirtual index, 3)) (hf : cells ≤ R.cells ∧ slots ≤ R.slots)
    (kk : ∀ (r : Int32) (u' : S) (H1 : Heap) (locs1 : List Loc), post u r u' → cx_W D (to ++ tys ct) A s H0 H1 locs1 (wo ++ wd ad ct u') → W p l e R s m args below meth c H1 locs1 cells slots Q (F0 m (pc + 3) ls (.int r :: rest))) : W p l e R s m args below meth c H locs cells slots Q (F0 m pc ls st0) := by
  obtain ⟨hK, hP, hD, hS, hA⟩ := hw
  have hPc := cl_P2 hP
  have hDc := cl_D2 hD
  have hKc := cl_K2 hK
  have hFc : ∀ q, va_A (wd ad ct u) H.size q → A q := fun q h => by
    rcases h with ⟨k, x, h⟩ | h
    · exact hDc.2 k (q, x) h
    · exact hA q (Nat.le_trans hS.1 h)
  refine va_calli (va_runV (As := av) (rest := rest) ⟨hC.1, hC.2.1, hml, hC.2.2.1, hC.2.2.2⟩ (hM D ad ct H.size u hpre) cw ⟨fun a U g mk q => by obtain ⟨q0, q1, qP, qK, qD⟩ := q; exact ⟨q0, q1, qP, va_K.moved (u := U) (U := U.calling g mk a) (Vm.Alike.refl U.vm) qK, qD⟩, va_recv hKc hPc (ci := ci) (q0 := 0) hcl he, fun U hU hW => ⟨rfl, by rw [hU], by rw [hU]; exact hPc, va_K.moved hW.alike hKc, hDc.weaken (fun _ _ _ _ => trivial)⟩⟩ rfl hn hls hst (lv_room hroom) hdg hf) hS (fun q _ h => hFc q h) hFc (fun r u' t H1 locs1 ht hvm hw1 hB hz1 hk1 hS1 => ?_)
  obtain ⟨hP1, hK1, hD1⟩ := hB
  rw [ht] at hP1
  obtain ⟨j1, j2⟩ := cl_join2 hP hD hk1 hFc hP1 hD1
  exact kk r u' H1 locs1 hw1 ⟨hK, j1, j2, hS1, hA⟩
theorem cl_callv1 {own C : String} {T : u_T} {N ci nL index maxL n : Nat} {y : MethodName} {code : ByteArray} {rm : Room} {av st0 : List Value} {fs : List Value} {pre : S → Prop} {post : S → S → Prop} {u : S} (hM : cx_Mv l y code maxL rm wd tys av pre post) (hC : cx_C p m c cc s args own) (hml : c.maxLocals = nL) (hls : ls.size = nL) (hw : cx_W D (tys ct ++ to) A s H0 H locs (wd ad ct u ++ wo)) (hpre : pre u) (cw : CallW R s args own C index y code maxL none (ws_ y code maxL none) rm 0 0 n) (hcl : vwCl[ci]? = some (C, T, N)) (he : (wd ad ct u)[0]? = some (ad 0, .inr (ci, fs))) (hn : av.length = n) (hst : st0 = av.reverse ++ .ref (ad 0) :: rest) (hroom : (rest.map fun v => v.category).sum ≤ 8) (hdg : decode cc pc = .ok (.invokevirtual index, 3)) (hf : cells ≤ R.cells ∧ slots ≤ R.slots)
    (kk : ∀ (u' : S) (H1 : Heap) (locs1 : List Loc), post u u' → cx_W D (tys ct ++ to) A s H0 H1 locs1 (wd ad ct u' ++ wo) → W p l e R s m args below meth c H1 locs1 cells slots Q (F0 m (pc + 3) ls rest)) : W p l e R s m args below meth c H locs cells slots Q (F0 m pc ls st0) := by
  obtain ⟨hK, hP, hD, hS, hA⟩ := hw
  have hPc := cl_P1 hP
  have hDc := cl_D1 hD
  have hKc := cl_K1 hK
  have hFc : ∀ q, va_A (wd ad ct u) H.size q → A q := fun q h => by
    rcases h with ⟨k, x, h⟩ | h
    · exact hDc.2 k (q, x) h
    · exact hA q (Nat.le_trans hS.1 h)
  refine va_callv (va_runV (As := av) (rest := rest) ⟨hC.1, hC.2.1, hml, hC.2.2.1, hC.2.2.2⟩ (hM D ad ct H.size u hpre) cw ⟨fun a U g mk q => by obtain ⟨q0, q1, qP, qK, qD⟩ := q; exact ⟨q0, q1, qP, va_K.moved (u := U) (U := U.calling g mk a) (Vm.Alike.refl U.vm) qK, qD⟩, va_recv hKc hPc (ci := ci) (q0 := 0) hcl he, fun U hU hW => ⟨rfl, by rw [hU], by rw [hU]; exact hPc, va_K.moved hW.alike hKc, hDc.weaken (fun _ _ _ _ => trivial)⟩⟩ rfl hn hls hst (lv_room hroom) hdg hf) hS (fun q _ h => hFc q h) hFc (fun u' t H1 locs1 ht hvm hw1 hB hz1 hk1 hS1 => ?_)
  obtain ⟨hP1, hK1, hD1⟩ := hB
  rw [ht] at hP1
  obtain ⟨j1, j2⟩ := cl_join1 hP hD hk1 hFc hP1 hD1
  exact kk u' H1 locs1 hw1 ⟨hK, j1, j2, hS1, hA⟩
theorem cl_callv2 {own C : String} {T : u_T} {N ci nL index maxL n : Nat} {y : MethodName} {code : ByteArray} {rm : Room} {av st0 : List Value} {fs : List Value} {pre : S → Prop} {post : S → S → Prop} {u : S} (hM : cx_Mv l y code maxL rm wd tys av pre post) (hC : cx_C p m c cc s args own) (hml : c.maxLocals = nL) (hls : ls.size = nL) (hw : cx_W D (to ++ tys ct) A s H0 H locs (wo ++ wd ad ct u)) (hpre : pre u) (cw : CallW R s args own C index y code maxL none (ws_ y code maxL none) rm 0 0 n) (hcl : vwCl[ci]? = some (C, T, N)) (he : (wd ad ct u)[0]? = some (ad 0, .inr (ci, fs))) (hn : av.length = n) (hst : st0 = av.reverse ++ .ref (ad 0) :: rest) (hroom : (rest.map fun v => v.category).sum ≤ 8) (hdg : decode cc pc = .ok (.invokevirtual index, 3)) (hf : cells ≤ R.cells ∧ slots ≤ R.slots)
    (kk : ∀ (u' : S) (H1 : Heap) (locs1 : List Loc), post u u' → cx_W D (to ++ tys ct) A s H0 H1 locs1 (wo ++ wd ad ct u') → W p l e R s m args below meth c H1 locs1 cells slots Q (F0 m (pc + 3) ls rest)) : W p l e R s m args below meth c H locs cells slots Q (F0 m pc ls st0) := by
  obtain ⟨hK, hP, hD, hS, hA⟩ := hw
  have hPc := cl_P2 hP
  have hDc := cl_D2 hD
  have hKc := cl_K2 hK
  have hFc : ∀ q, va_A (wd ad ct u) H.size q → A q := fun q h => by
    rcases h with ⟨k, x, h⟩ | h
    · exact hDc.2 k (q, x) h
    · exact hA q (Nat.le_trans hS.1 h)
  refine va_callv (va_runV (As := av) (rest := rest) ⟨hC.1, hC.2.1, hml, hC.2.2.1, hC.2.2.2⟩ (hM D ad ct H.size u hpre) cw ⟨fun a U g mk q => by obtain ⟨q0, q1, qP, qK, qD⟩ := q; exact ⟨q0, q1, qP, va_K.moved (u := U) (U := U.calling g mk a) (Vm.Alike.refl U.vm) qK, qD⟩, va_recv hKc hPc (ci := ci) (q0 := 0) hcl he, fun U hU hW => ⟨rfl, by rw [hU], by rw [hU]; exact hPc, va_K.moved hW.alike hKc, hDc.weaken (fun _ _ _ _ => trivial)⟩⟩ rfl hn hls hst (lv_room hroom) hdg hf) hS (fun q _ h => hFc q h) hFc (fun u' t H1 locs1 ht hvm hw1 hB hz1 hk1 hS1 => ?_)
  obtain ⟨hP1, hK1, hD1⟩ := hB
  rw [ht] at hP1
  obtain ⟨j1, j2⟩ := cl_join2 hP hD hk1 hFc hP1 hD1
  exact kk u' H1 locs1 hw1 ⟨hK, j1, j2, hS1, hA⟩
/-- a constructor's call: the last cell becomes the object with its arrays -/
theorem cl_ctor {own : String} {nL index mc ms q : Nat} {y : MethodName} {code : ByteArray} {rm : Room} {e0 : va_E} {wz : (Nat → Nat) → (Nat → ClassId) → va_W} (hM : ∀ sz, Met l y (ws_ y code 1 none) rm (va_Pc [.ref q] (cx_Pre D [] [(q, e0)] sz)) (va_Qv (fun u : (Nat → Nat) × (Nat → ClassId) => u.1 0 = q) (fun u t => va_P D vwCl (wz u.1 u.2) t.heap ∧ va_K D vwCl (tys u.2) t ∧ va_D (va_A [(q, e0)] sz) (wz u.1 u.2)) (va_A [(q, e0)] sz)) mc ms (va_A [(q, e0)] sz)) (hC : cx_C p m c cc s args own) (hml : c.maxLocals = nL) (hls : ls.size = nL) (hw : cx_W D to A s H0 H locs (wo ++ [(q, e0)])) (cw : CallB R s args own index y code 1 none (ws_ y code 1 none) rm mc ms 0 ∧ y.name = "<init>" ∧ (Cond.instanceMethod y).before args s = true) (hroom : (rest.map fun v => v.category).sum ≤ 8) (hdg : decode cc pc = .ok (.invokespecial index, 3)) (hf : cells + mc ≤ R.cells ∧ slots + ms ≤ R.slots)
    (kk : ∀ (ad : Nat → Nat) (ct : Nat → ClassId) (H1 : Heap) (locs1 : List Loc), ad 0 = q → cx_W D (to ++ tys ct) A s H0 H1 locs1 (wo ++ wz ad ct) → W p l e R s m args below meth c H1 locs1 (cells + mc) (slots + ms) Q (F0 m (pc + 3) ls rest)) : W p l e R s m args below meth c H locs cells slots Q (F0 m pc ls (.ref q :: rest)) := by
  obtain ⟨hK, hP, hD, hS, hA⟩ := hw
  have hPc := cl_P2 hP
  have hDc := cl_D2 hD
  have hKc := hK.sub (tys' := []) [] rfl
  have hFc : ∀ z, va_A [(q, e0)] H.size z → A z := fun z h => by
    rcases h with ⟨k, x, h⟩ | h
    · exact hDc.2 k (z, x) h
    · exact hA z (Nat.le_trans hS.1 h)
  refine va_callv (va_runI (As := []) (rest := rest) ⟨hC.1, hC.2.1, hml, hC.2.2.1, hC.2.2.2⟩ (hM H.size) cw ⟨fun a U g mk q => by obtain ⟨q0, q1, qP, qK, qD⟩ := q; exact ⟨q0, q1, qP, va_K.moved (u := U) (U := U.calling g mk a) (Vm.Alike.refl U.vm) qK, qD⟩, fun U hU hW => ⟨rfl, by rw [hU], by rw [hU]; exact hPc, va_K.moved hW.alike hKc, hDc.weaken (fun _ _ _ _ => trivial)⟩⟩ rfl rfl hls rfl (lv_room hroom) hdg hf) hS (fun q _ h => hFc q h) hFc (fun u t H1 locs1 ht hvm hw1 hB hz1 hk1 hS1 => ?_)
  obtain ⟨ad, ct⟩ := u
  obtain ⟨hP1, hK1, hD1⟩ := hB
  rw [ht] at hP1
  obtain ⟨j1, j2⟩ := cl_join2 hP hD hk1 hFc hP1 hD1
  exact kk ad ct H1 locs1 hw1 ⟨hK.app (va_K.moved hvm.symm hK1), j1, j2, hS1, hA⟩
/-- the script -/
theorem cl_sld {own : String} {ty : List (ClassId × FieldType)} {ws : va_W} {b L i : Nat} {xs : Nat → Int32} (hC : cx_C p m c cc s args own) (hw : cx_W D ty A s H0 H locs ws) (hX : va_X b L xs s H0) (hbl : b < H0.size) (hbA : ¬ A b) (hL : L ≤ 320) (hi : i < L) (hdg : decode cc pc = .ok (.iaload, 1)) (kk : W p l e R s m args below meth c H locs cells slots Q (F0 m (pc + 1) ls (.int (xs i) :: rest))) : W p l e R s m args below meth c H locs cells slots Q (F0 m pc ls (.int (nI i) :: .ref b :: rest)) := by
  have h31 : i < 2 ^ 31 := by omega
  refine va_sld hC.1 hC.2.1 hX hbl hbA hw.2.2.2.1 (vp_in_nI hi (by omega)) hdg ?_
  rw [nI_clamp h31]
  exact kk
theorem cl_slen {own : String} {ty : List (ClassId × FieldType)} {ws : va_W} {b L : Nat} {xs : Nat → Int32} (hC : cx_C p m c cc s args own) (hw : cx_W D ty A s H0 H locs ws) (hX : va_X b L xs s H0) (hbl : b < H0.size) (hbA : ¬ A b) (hdg : decode cc pc = .ok (.arraylength, 1)) (kk : W p l e R s m args below meth c H locs cells slots Q (F0 m (pc + 1) ls (.int (nI L) :: rest))) : W p l e R s m args below meth c H locs cells slots Q (F0 m pc ls (.ref b :: rest)) := va_slen hC.1 hC.2.1 hX hbl hbA hw.2.2.2.1 hdg kk
end
theorem cl_end {L i : Nat} (hL : L ≤ 320) (hi : i ≤ L) (h : ¬ nI L - nI 5 < nI i) : i + 5 ≤ L := by
  rw [Int32.lt_iff_toInt_lt, pk_sub_toInt (by omega) (by omega), nI_toInt (by omega)] at h
  omega
/-! answers -/
theorem sg_nInj {i j : Nat} (hi : i < 1000) (hj : j < 1000) (h : nI i = nI j) : i = j := (nI_eq (by omega) (by omega)).mp h
theorem sg_Ry.one {D : sg_D} {s k r r' : Int32} (h : sg_Ry D s k r) (h' : sg_Ry D s k r') : r = r' := by
  rcases h with ⟨i, j, h1, h2, rfl, rfl, h3⟩ | ⟨h1, h2⟩
  · rcases h' with ⟨i', j', g1, g2, g3, g4, g5⟩ | ⟨g1, -⟩
    · have e1 := sg_nInj (by omega) (by omega) g3
      have e2 := sg_nInj (by omega) (by omega) g4
      subst e1
      subst e2
      rcases h3 with ⟨a1, rfl⟩ | ⟨a1, rfl⟩
      · rcases g5 with ⟨b1, rfl⟩ | ⟨b1, rfl⟩
        · rfl
        · exact absurd a1 b1
      · rcases g5 with ⟨b1, rfl⟩ | ⟨b1, rfl⟩
        · exact absurd b1 a1
        · rfl
    · exact absurd ⟨⟨i, h1, rfl⟩, ⟨j, h2, rfl⟩⟩ g1
  · rcases h' with ⟨i', j', g1, g2, g3, g4, -⟩ | ⟨-, g2⟩
    · exact absurd ⟨⟨i', g1, g3⟩, ⟨j', g2, g4⟩⟩ h1
    · rw [h2, g2]
theorem sg_El.one {D : sg_D} {s k r r' : Int32} (h : sg_El D s k r) (h' : sg_El D s k r') : r = r' := by
  rcases h with ⟨i, j, h1, h2, rfl, rfl, h3⟩ | ⟨h1, h2⟩
  · rcases h' with ⟨i', j', g1, g2, g3, g4, g5⟩ | ⟨g1, -⟩
    · have e1 := sg_nInj (by omega) (by omega) g3
      have e2 := sg_nInj (by omega) (by omega) g4
      subst e1
      subst e2
      rw [h3, g5]
    · exact absurd ⟨⟨i, h1, rfl⟩, ⟨j, h2, rfl⟩⟩ g1
  · rcases h' with ⟨i', j', g1, g2, g3, g4, -⟩ | ⟨-, g2⟩
    · exact absurd ⟨⟨i', g1, g3⟩, ⟨j', g2, g4⟩⟩ h1
    · rw [h2, g2]
theorem sg_Kn.one {D : sg_D} {s r r' : Int32} (h : sg_Kn D s r) (h' : sg_Kn D s r') : r = r' := by
  rcases h with ⟨i, h1, rfl, h3⟩ | ⟨h1, h2⟩
  · rcases h' with ⟨i', g1, g3, g5⟩ | ⟨g1, -⟩
    · have e1 := sg_nInj (by omega) (by omega) g3
      subst e1
      rw [h3, g5]
    · exact absurd ⟨i, h1, rfl⟩ g1
  · rcases h' with ⟨i', g1, g3, -⟩ | ⟨-, g2⟩
    · exact absurd ⟨i', g1, g3⟩ h1
    · rw [h2, g2]
theorem sg_Fa.one {D : sg_D} {s v r r' : Int32} (h : sg_Fa D s v r) (h' : sg_Fa D s v r') : r = r' := by
  rcases h with ⟨i, h1, rfl, h3⟩ | ⟨h1, h2⟩
  · rcases h' with ⟨i', g1, g3, g5⟩ | ⟨g1, -⟩
    · have e1 := sg_nInj (by omega) (by omega) g3
      subst e1
      exact h3.one g5
    · exact absurd ⟨i, h1, rfl⟩ g1
  · rcases h' with ⟨i', g1, g3, -⟩ | ⟨-, g2⟩
    · exact absurd ⟨i', g1, g3⟩ h1
    · rw [h2, g2]
theorem sg_Ag.one {D : sg_D} {s t r r' : Int32} (h : sg_Ag D s t r) (h' : sg_Ag D s t r') : r = r' := by
  rcases h with ⟨i, j, h1, h2, rfl, rfl, h3⟩ | ⟨h1, h2⟩
  · rcases h' with ⟨i', j', g1, g2, g3, g4, g5⟩ | ⟨g1, -⟩
    · have e1 := sg_nInj (by omega) (by omega) g3
      have e2 := sg_nInj (by omega) (by omega) g4
      subst e1
      subst e2
      rw [h3, g5]
    · exact absurd ⟨⟨i, h1, rfl⟩, ⟨j, h2, rfl⟩⟩ g1
  · rcases h' with ⟨i', j', g1, g2, g3, g4, -⟩ | ⟨-, g2⟩
    · exact absurd ⟨⟨i', g1, g3⟩, ⟨j', g2, g4⟩⟩ h1
    · rw [h2, g2]
theorem sg_Kd.one {D : sg_D} {s r r' : Int32} (h : sg_Kd D s r) (h' : sg_Kd D s r') : r = r' := by
  rcases h with ⟨i, h1, rfl, h3⟩ | ⟨h1, h2⟩
  · rcases h' with ⟨i', g1, g3, g5⟩ | ⟨g1, -⟩
    · have e1 := sg_nInj (by omega) (by omega) g3
      subst e1
      rw [h3, g5]
    · exact absurd ⟨i, h1, rfl⟩ g1
  · rcases h' with ⟨i', g1, g3, -⟩ | ⟨-, g2⟩
    · exact absurd ⟨i', g1, g3⟩ h1
    · rw [h2, g2]
theorem sg_Df.one {D D1 D2 : sg_D} {s k a b r r' : Int32} (h : sg_Df D s k a b r D1) (h' : sg_Df D s k a b r' D2) : r = r' ∧ D2 = D1 := by
  rcases h with ⟨i, c, hc, h1, h2⟩ | ⟨h0, h1, h2⟩
  · rcases h' with ⟨i', c', hc', g1, g2⟩ | ⟨g0, -, -⟩
    · obtain ⟨a1, a2, a3, a4, -, -⟩ := hc
      obtain ⟨b1, b2, b3, b4, -, -⟩ := hc'
      rw [a3] at b3
      rw [a4] at b4
      have e1 := sg_nInj (by omega) (by omega) b3
      have e2 := sg_nInj (by omega) (by omega) b4
      subst e1
      subst e2
      exact ⟨by rw [h1, g1], by rw [h2, g2]⟩
    · exact absurd ⟨i, c, hc⟩ g0
  · rcases h' with ⟨i', c', hc', -, -⟩ | ⟨-, g1, g2⟩
    · exact absurd ⟨i', c', hc'⟩ h0
    · exact ⟨by rw [h1, g1], by rw [h2, g2]⟩
theorem sg_Df.ok {D D1 : sg_D} (hD : sg_Ok D) {s k a b r : Int32} (h : sg_Df D s k a b r D1) : sg_Ok D1 := by
  rcases h with ⟨i, c, ⟨-, h2, -, -, h5, h6⟩, -, rfl⟩ | ⟨-, -, rfl⟩
  · exact sg_df_ok hD h2 h5 h6
  · exact hD
end
section
/-! THE CLAIM OUT OF ONE WALK OF THE LAW'S BODY. Your part is whole_start (and what it stands on); all else here is the same for every law, but numbers. -/
def R_law : String := "SelectorGcLaw"
def lw_P (b : Addr) (xs : List Int32) (args : Array Value) (s : State) : Prop := args = #[.ref b] ∧ s.IntsAt b xs ∧ xs.length ≤ 320 ∧ (Jvm.Cond.and given_1 narrow_1).before args s = true
def lw_Q (_ : Array Value) (s : State) (o : Outcome) (t : State) : Prop := o = .returned (some (.int 1)) ∧ Framed s o t [] 600000 7290000
def lw_Z (below : List Frame) (a : Array Value) (s : State) : State → Prop := fun t => ∃ o, t.status = .running ∧ Ended t below o ∧ lw_Q a s o t
/-- the law's own end, with 1 on the stack, nothing written that was there before, its room as the claim has it -/
theorem lw_ret {p : Program} {l : Launch} {e : Env} {s : State} {m : MethodId} {below : List Frame} {meth : Method} {c : Code} {b : Nat} (hx : p.tables.exec = Jvm.exec) (hb : c.code = code) (hr : meth.sig.returnType = ret) (hlocks : meth.locks = false) {pc : Nat} {H : Heap} {ls : Array Slot} (hdg : decode code pc = .ok (.ireturn, 1)) : W p l e room_1 s m #[Value.ref b] below meth c H [] 600000 7290000 (lw_Z below #[Value.ref b] s) (F0 m pc ls [.int 1]) := by
  intro T hT X
  obtain ⟨fs, hret, hrun, hended, hW, hframe⟩ := X.leave (v := some (.int 1)) (hlocks := hlocks) (fun h => by rw [hr] at h; cases h)
  have hmeth' : T.vm.method? m = some meth := X.method'
  refine ⟨T.setFrames fs, ?_, .returned (some (.int 1)), hrun, hended, rfl, ⟨_, rfl⟩, hW, hframe⟩
  jvm_step X.here [X.here.top, hx, hb, hdg, hmeth', hr, ret, narrow_b1]
  (try refine ⟨rfl, ?_⟩); (try refine ⟨rfl, ?_⟩)
  first | (intro acts; rw [hret _ acts rfl rfl rfl]) | rw [hret _ _ rfl rfl rfl]
  exact Steps.refl _
/-- what holds at the law's entry: the machine, the code, the tables' words (any of lw_tbl by 'hts w (by decide +kernel)'), the script of L ints xs at the cell b, what the Statement gives of the start (any of its parts by flat_of_before) -/
def lw_At (p : Program) (s : State) (m : MethodId) (meth : Method) (c : Code) (b L : Nat) (xs : Nat → Int32) : Prop :=
  p.tables.exec = Jvm.exec ∧ c.code = code ∧ meth.sig.returnType = ret ∧ c.maxLocals = 4 ∧ s.vm.findClass R_law = some m.cls ∧ (∀ w ∈ lw_tbl, w.before #[Value.ref b] s = true) ∧ va_X b L xs s s.heap ∧ b < s.heap.size ∧ meth.locks = false ∧ (Jvm.Cond.and given_1 narrow_1).before #[Value.ref b] s = true
end
section
/-! THE LAW: case by case, its loop -/
theorem cl_hx (ad : Nat → Nat) (ct : Nat → ClassId) (u : xS) : ∃ fs, (xW ad ct u)[0]? = some (ad 0, .inr (0, fs)) := by
  obtain ⟨kd, da, db, bt, ba, tp, st, nu, sp, lf, rt, bz, mv, ro, sk, hh⟩ := u
  exact ⟨_, rfl⟩
theorem cl_hm (ad : Nat → Nat) (ct : Nat → ClassId) (u : mS) : ∃ fs, (mW ad ct u)[0]? = some (ad 0, .inr (1, fs)) := by
  obtain ⟨kd, da, db, hs, vl, pa, pb⟩ := u
  exact ⟨_, rfl⟩
section
variable {p : Program} {l : Launch} {e : Env} {s : State} {m : MethodId} {below : List Frame} {meth : Method} {c : Code} {H : Heap} {locs : List Loc} {Q : State → Prop} {ls : Array Slot} {D : va_G} {ad bd : Nat → Nat} {ct dt : Nat → ClassId} {b L i : Nat} {xs : Nat → Int32} {Df : sg_D} {u : xS} {v : mS}
set_option maxHeartbeats 4000000 in
set_option maxRecDepth 100000 in
theorem law_define (hL : L ≤ 320) (hi : i + 5 ≤ L) (hC : cx_C p m c cL_law s #[Value.ref b] R_law) (hml : c.maxLocals = 4) (hX : va_X b L xs s s.heap) (hbl : b < s.heap.size) (hl : lv_has ls 4 [(0, .ref b), (1, .ref (ad 0)), (2, .ref (bd 0)), (3, .int (nI i))]) (hOk : sg_Ok Df) (hu : xSt Df u) (hv : mSt Df v) (hw : cx_W D (xT ct ++ mT dt) (fun q : Nat => s.heap.size ≤ q) s s.heap H locs (xW ad ct u ++ mW bd dt v))
    (kk : ∀ (Df : sg_D) (u : xS) (v : mS) (H : Heap) (locs : List Loc), sg_Ok Df → xSt Df u → mSt Df v → cx_W D (xT ct ++ mT dt) (fun q : Nat => s.heap.size ≤ q) s s.heap H locs (xW ad ct u ++ mW bd dt v) → W p l e room_1 s m #[Value.ref b] below meth c H locs 19 3917 Q (F0 m 322 ls [])) : W p l e room_1 s m #[Value.ref b] below meth c H locs 19 3917 Q (F0 m 80 ls []) := by
  have hbA : ¬ (fun q : Nat => s.heap.size ≤ q) b := Nat.not_le.mpr hbl
  obtain ⟨fx, hfx⟩ := cl_hx ad ct u
  obtain ⟨fm, hfm⟩ := cl_hm bd dt v
  refine lv_aload_n hC.1 hC.2.1 dL_law_80 rfl (lv_at hl 1 rfl) ?_
  refine lv_aload_n hC.1 hC.2.1 dL_law_81 rfl (lv_at hl 0 rfl) ?_
  refine lv_iload_n hC.1 hC.2.1 dL_law_82 rfl (lv_at hl 3 rfl) ?_
  refine lv_iconst (v := nI 1) hC.1 hC.2.1 dL_law_83 (by decide) ?_
  refine xn_iadd (r := i + 1) hC rfl dL_law_84 ?_
  refine cl_sld (i := i + 1) hC hw hX hbl hbA hL (by omega) dL_law_85 ?_
  refine lv_aload_n hC.1 hC.2.1 dL_law_86 rfl (lv_at hl 0 rfl) ?_
  refine lv_iload_n hC.1 hC.2.1 dL_law_87 rfl (lv_at hl 3 rfl) ?_
  refine lv_iconst (v := nI 2) hC.1 hC.2.1 dL_law_88 (by decide) ?_
  refine xn_iadd (r := i + 2) hC rfl dL_law_89 ?_
  refine cl_sld (i := i + 2) hC hw hX hbl hbA hL (by omega) dL_law_90 ?_
  refine lv_aload_n hC.1 hC.2.1 dL_law_91 rfl (lv_at hl 0 rfl) ?_
  refine lv_iload_n hC.1 hC.2.1 dL_law_92 rfl (lv_at hl 3 rfl) ?_
  refine lv_iconst (v := nI 3) hC.1 hC.2.1 dL_law_93 (by decide) ?_
  refine xn_iadd (r := i + 3) hC rfl dL_law_94 ?_
  refine cl_sld (i := i + 3) hC hw hX hbl hbA hL (by omega) dL_law_95 ?_
  refine lv_aload_n hC.1 hC.2.1 dL_law_96 rfl (lv_at hl 0 rfl) ?_
  refine lv_iload_n hC.1 hC.2.1 dL_law_97 rfl (lv_at hl 3 rfl) ?_
  refine lv_iconst (v := nI 4) hC.1 hC.2.1 dL_law_98 (by decide) ?_
  refine xn_iadd (r := i + 4) hC rfl dL_law_99 ?_
  refine cl_sld (i := i + 4) hC hw hX hbl hbA hL (by omega) dL_law_100 ?_
  refine cl_call1 (ci := 0) (rest := []) (x_define l (D := Df) (x := xs (i + 1)) (k := xs (i + 2)) (a := xs (i + 3)) (b := xs (i + 4)) hOk) hC hml hl.1 hw hu (cwV 4 hC.2.2.2 (lw_V q92 q93 q94 q29 q95) rfl rfl rfl (by decide +kernel) ⟨Nat.le_of_ble_eq_true rfl, Nat.le_of_ble_eq_true rfl⟩) rfl hfx rfl rfl (Nat.le_of_ble_eq_true rfl) dL_law_101 ⟨Nat.le_of_ble_eq_true rfl, Nat.le_of_ble_eq_true rfl⟩ (fun r1 u1 H locs hp1 hw => ?_)
  refine lv_aload_n hC.1 hC.2.1 dL_law_104 rfl (lv_at hl 2 rfl) ?_
  refine lv_aload_n hC.1 hC.2.1 dL_law_105 rfl (lv_at hl 0 rfl) ?_
  refine lv_iload_n hC.1 hC.2.1 dL_law_106 rfl (lv_at hl 3 rfl) ?_
  refine lv_iconst (v := nI 1) hC.1 hC.2.1 dL_law_107 (by decide) ?_
  refine xn_iadd (r := i + 1) hC rfl dL_law_108 ?_
  refine cl_sld (i := i + 1) hC hw hX hbl hbA hL (by omega) dL_law_109 ?_
  refine lv_aload_n hC.1 hC.2.1 dL_law_110 rfl (lv_at hl 0 rfl) ?_
  refine lv_iload_n hC.1 hC.2.1 dL_law_111 rfl (lv_at hl 3 rfl) ?_
  refine lv_iconst (v := nI 2) hC.1 hC.2.1 dL_law_112 (by decide) ?_
  refine xn_iadd (r := i + 2) hC rfl dL_law_113 ?_
  refine cl_sld (i := i + 2) hC hw hX hbl hbA hL (by omega) dL_law_114 ?_
  refine lv_aload_n hC.1 hC.2.1 dL_law_115 rfl (lv_at hl 0 rfl) ?_
  refine lv_iload_n hC.1 hC.2.1 dL_law_116 rfl (lv_at hl 3 rfl) ?_
  refine lv_iconst (v := nI 3) hC.1 hC.2.1 dL_law_117 (by decide) ?_
  refine xn_iadd (r := i + 3) hC rfl dL_law_118 ?_
  refine cl_sld (i := i + 3) hC hw hX hbl hbA hL (by omega) dL_law_119 ?_
  refine lv_aload_n hC.1 hC.2.1 dL_law_120 rfl (lv_at hl 0 rfl) ?_
  refine lv_iload_n hC.1 hC.2.1 dL_law_121 rfl (lv_at hl 3 rfl) ?_
  refine lv_iconst (v := nI 4) hC.1 hC.2.1 dL_law_122 (by decide) ?_
  refine xn_iadd (r := i + 4) hC rfl dL_law_123 ?_
  refine cl_sld (i := i + 4) hC hw hX hbl hbA hL (by omega) dL_law_124 ?_
  refine cl_call2 (ci := 1) (rest := [.int r1]) (m_define l (D := Df) (x := xs (i + 1)) (k := xs (i + 2)) (a := xs (i + 3)) (b := xs (i + 4)) hOk) hC hml hl.1 hw hv (cwV 4 hC.2.2.2 (lw_V q220 q221 q222 q30 q223) rfl rfl rfl (by decide +kernel) ⟨Nat.le_of_ble_eq_true rfl, Nat.le_of_ble_eq_true rfl⟩) rfl hfm rfl rfl (Nat.le_of_ble_eq_true rfl) dL_law_125 ⟨Nat.le_of_ble_eq_true rfl, Nat.le_of_ble_eq_true rfl⟩ (fun r2 v1 H locs hp2 hw => ?_)
  obtain ⟨D1, hu1, ha1⟩ := hp1
  obtain ⟨D2, hv2, ha2⟩ := hp2
  have h12 := ha1.one ha2
  exact lv_icmp_eq (tgt := 322) hC.1 hC.2.1 dL_law_128 (by decide) (fun _ => kk D1 u1 v1 H locs (ha1.ok hOk) hu1 (by rw [← h12.2]; exact hv2) hw) (fun g => absurd h12.1 g)
set_option maxHeartbeats 4000000 in
set_option maxRecDepth 100000 in
theorem law_ready (hL : L ≤ 320) (hi : i + 5 ≤ L) (hC : cx_C p m c cL_law s #[Value.ref b] R_law) (hml : c.maxLocals = 4) (hX : va_X b L xs s s.heap) (hbl : b < s.heap.size) (hl : lv_has ls 4 [(0, .ref b), (1, .ref (ad 0)), (2, .ref (bd 0)), (3, .int (nI i))]) (hOk : sg_Ok Df) (hu : xSt Df u) (hv : mSt Df v) (hw : cx_W D (xT ct ++ mT dt) (fun q : Nat => s.heap.size ≤ q) s s.heap H locs (xW ad ct u ++ mW bd dt v))
    (kk : ∀ (Df : sg_D) (u : xS) (v : mS) (H : Heap) (locs : List Loc), sg_Ok Df → xSt Df u → mSt Df v → cx_W D (xT ct ++ mT dt) (fun q : Nat => s.heap.size ≤ q) s s.heap H locs (xW ad ct u ++ mW bd dt v) → W p l e room_1 s m #[Value.ref b] below meth c H locs 19 3917 Q (F0 m 322 ls [])) : W p l e room_1 s m #[Value.ref b] below meth c H locs 19 3917 Q (F0 m 133 ls []) := by
  have hbA : ¬ (fun q : Nat => s.heap.size ≤ q) b := Nat.not_le.mpr hbl
  obtain ⟨fx, hfx⟩ := cl_hx ad ct u
  obtain ⟨fm, hfm⟩ := cl_hm bd dt v
  refine lv_aload_n hC.1 hC.2.1 dL_law_133 rfl (lv_at hl 1 rfl) ?_
  refine lv_aload_n hC.1 hC.2.1 dL_law_134 rfl (lv_at hl 0 rfl) ?_
  refine lv_iload_n hC.1 hC.2.1 dL_law_135 rfl (lv_at hl 3 rfl) ?_
  refine lv_iconst (v := nI 1) hC.1 hC.2.1 dL_law_136 (by decide) ?_
  refine xn_iadd (r := i + 1) hC rfl dL_law_137 ?_
  refine cl_sld (i := i + 1) hC hw hX hbl hbA hL (by omega) dL_law_138 ?_
  refine lv_aload_n hC.1 hC.2.1 dL_law_139 rfl (lv_at hl 0 rfl) ?_
  refine lv_iload_n hC.1 hC.2.1 dL_law_140 rfl (lv_at hl 3 rfl) ?_
  refine lv_iconst (v := nI 2) hC.1 hC.2.1 dL_law_141 (by decide) ?_
  refine xn_iadd (r := i + 2) hC rfl dL_law_142 ?_
  refine cl_sld (i := i + 2) hC hw hX hbl hbA hL (by omega) dL_law_143 ?_
  refine cl_call1 (ci := 0) (rest := []) (x_ready l (D := Df) (x := xs (i + 1)) (y := xs (i + 2)) hOk) hC hml hl.1 hw hu (cwV 2 hC.2.2.2 (lw_V q108 q109 q110 q29 q111) rfl rfl rfl (by decide +kernel) ⟨Nat.le_of_ble_eq_true rfl, Nat.le_of_ble_eq_true rfl⟩) rfl hfx rfl rfl (Nat.le_of_ble_eq_true rfl) dL_law_144 ⟨Nat.le_of_ble_eq_true rfl, Nat.le_of_ble_eq_true rfl⟩ (fun r1 u1 H locs hp1 hw => ?_)
  refine lv_aload_n hC.1 hC.2.1 dL_law_147 rfl (lv_at hl 2 rfl) ?_
  refine lv_aload_n hC.1 hC.2.1 dL_law_148 rfl (lv_at hl 0 rfl) ?_
  refine lv_iload_n hC.1 hC.2.1 dL_law_149 rfl (lv_at hl 3 rfl) ?_
  refine lv_iconst (v := nI 1) hC.1 hC.2.1 dL_law_150 (by decide) ?_
  refine xn_iadd (r := i + 1) hC rfl dL_law_151 ?_
  refine cl_sld (i := i + 1) hC hw hX hbl hbA hL (by omega) dL_law_152 ?_
  refine lv_aload_n hC.1 hC.2.1 dL_law_153 rfl (lv_at hl 0 rfl) ?_
  refine lv_iload_n hC.1 hC.2.1 dL_law_154 rfl (lv_at hl 3 rfl) ?_
  refine lv_iconst (v := nI 2) hC.1 hC.2.1 dL_law_155 (by decide) ?_
  refine xn_iadd (r := i + 2) hC rfl dL_law_156 ?_
  refine cl_sld (i := i + 2) hC hw hX hbl hbA hL (by omega) dL_law_157 ?_
  refine cl_call2 (ci := 1) (rest := [.int r1]) (m_ready l (D := Df) (x := xs (i + 1)) (y := xs (i + 2)) hOk) hC hml hl.1 hw hv (cwV 2 hC.2.2.2 (lw_V q236 q237 q238 q30 q239) rfl rfl rfl (by decide +kernel) ⟨Nat.le_of_ble_eq_true rfl, Nat.le_of_ble_eq_true rfl⟩) rfl hfm rfl rfl (Nat.le_of_ble_eq_true rfl) dL_law_158 ⟨Nat.le_of_ble_eq_true rfl, Nat.le_of_ble_eq_true rfl⟩ (fun r2 v1 H locs hp2 hw => ?_)
  exact lv_icmp_eq (tgt := 322) hC.1 hC.2.1 dL_law_161 (by decide) (fun _ => kk Df u1 v1 H locs hOk hp1.1 hp2.1 hw) (fun g => absurd (hp1.2.one hp2.2) g)
set_option maxHeartbeats 4000000 in
set_option maxRecDepth 100000 in
theorem law_element (hL : L ≤ 320) (hi : i + 5 ≤ L) (hC : cx_C p m c cL_law s #[Value.ref b] R_law) (hml : c.maxLocals = 4) (hX : va_X b L xs s s.heap) (hbl : b < s.heap.size) (hl : lv_has ls 4 [(0, .ref b), (1, .ref (ad 0)), (2, .ref (bd 0)), (3, .int (nI i))]) (hOk : sg_Ok Df) (hu : xSt Df u) (hv : mSt Df v) (hw : cx_W D (xT ct ++ mT dt) (fun q : Nat => s.heap.size ≤ q) s s.heap H locs (xW ad ct u ++ mW bd dt v))
    (kk : ∀ (Df : sg_D) (u : xS) (v : mS) (H : Heap) (locs : List Loc), sg_Ok Df → xSt Df u → mSt Df v → cx_W D (xT ct ++ mT dt) (fun q : Nat => s.heap.size ≤ q) s s.heap H locs (xW ad ct u ++ mW bd dt v) → W p l e room_1 s m #[Value.ref b] below meth c H locs 19 3917 Q (F0 m 322 ls [])) : W p l e room_1 s m #[Value.ref b] below meth c H locs 19 3917 Q (F0 m 166 ls []) := by
  have hbA : ¬ (fun q : Nat => s.heap.size ≤ q) b := Nat.not_le.mpr hbl
  obtain ⟨fx, hfx⟩ := cl_hx ad ct u
  obtain ⟨fm, hfm⟩ := cl_hm bd dt v
  refine lv_aload_n hC.1 hC.2.1 dL_law_166 rfl (lv_at hl 1 rfl) ?_
  refine lv_aload_n hC.1 hC.2.1 dL_law_167 rfl (lv_at hl 0 rfl) ?_
  refine lv_iload_n hC.1 hC.2.1 dL_law_168 rfl (lv_at hl 3 rfl) ?_
  refine lv_iconst (v := nI 1) hC.1 hC.2.1 dL_law_169 (by decide) ?_
  refine xn_iadd (r := i + 1) hC rfl dL_law_170 ?_
  refine cl_sld (i := i + 1) hC hw hX hbl hbA hL (by omega) dL_law_171 ?_
  refine lv_aload_n hC.1 hC.2.1 dL_law_172 rfl (lv_at hl 0 rfl) ?_
  refine lv_iload_n hC.1 hC.2.1 dL_law_173 rfl (lv_at hl 3 rfl) ?_
  refine lv_iconst (v := nI 2) hC.1 hC.2.1 dL_law_174 (by decide) ?_
  refine xn_iadd (r := i + 2) hC rfl dL_law_175 ?_
  refine cl_sld (i := i + 2) hC hw hX hbl hbA hL (by omega) dL_law_176 ?_
  refine cl_call1 (ci := 0) (rest := []) (x_element l (D := Df) (x := xs (i + 1)) (y := xs (i + 2)) hOk) hC hml hl.1 hw hu (cwV 2 hC.2.2.2 (lw_V q168 q169 q170 q29 q171) rfl rfl rfl (by decide +kernel) ⟨Nat.le_of_ble_eq_true rfl, Nat.le_of_ble_eq_true rfl⟩) rfl hfx rfl rfl (Nat.le_of_ble_eq_true rfl) dL_law_177 ⟨Nat.le_of_ble_eq_true rfl, Nat.le_of_ble_eq_true rfl⟩ (fun r1 u1 H locs hp1 hw => ?_)
  refine lv_aload_n hC.1 hC.2.1 dL_law_180 rfl (lv_at hl 2 rfl) ?_
  refine lv_aload_n hC.1 hC.2.1 dL_law_181 rfl (lv_at hl 0 rfl) ?_
  refine lv_iload_n hC.1 hC.2.1 dL_law_182 rfl (lv_at hl 3 rfl) ?_
  refine lv_iconst (v := nI 1) hC.1 hC.2.1 dL_law_183 (by decide) ?_
  refine xn_iadd (r := i + 1) hC rfl dL_law_184 ?_
  refine cl_sld (i := i + 1) hC hw hX hbl hbA hL (by omega) dL_law_185 ?_
  refine lv_aload_n hC.1 hC.2.1 dL_law_186 rfl (lv_at hl 0 rfl) ?_
  refine lv_iload_n hC.1 hC.2.1 dL_law_187 rfl (lv_at hl 3 rfl) ?_
  refine lv_iconst (v := nI 2) hC.1 hC.2.1 dL_law_188 (by decide) ?_
  refine xn_iadd (r := i + 2) hC rfl dL_law_189 ?_
  refine cl_sld (i := i + 2) hC hw hX hbl hbA hL (by omega) dL_law_190 ?_
  refine cl_call2 (ci := 1) (rest := [.int r1]) (m_element l (D := Df) (x := xs (i + 1)) (y := xs (i + 2)) hOk) hC hml hl.1 hw hv (cwV 2 hC.2.2.2 (lw_V q272 q273 q274 q30 q275) rfl rfl rfl (by decide +kernel) ⟨Nat.le_of_ble_eq_true rfl, Nat.le_of_ble_eq_true rfl⟩) rfl hfm rfl rfl (Nat.le_of_ble_eq_true rfl) dL_law_191 ⟨Nat.le_of_ble_eq_true rfl, Nat.le_of_ble_eq_true rfl⟩ (fun r2 v1 H locs hp2 hw => ?_)
  exact lv_icmp_eq (tgt := 322) hC.1 hC.2.1 dL_law_194 (by decide) (fun _ => kk Df u1 v1 H locs hOk hp1.1 hp2.1 hw) (fun g => absurd (hp1.2.one hp2.2) g)
set_option maxHeartbeats 4000000 in
set_option maxRecDepth 100000 in
theorem law_known (hL : L ≤ 320) (hi : i + 5 ≤ L) (hC : cx_C p m c cL_law s #[Value.ref b] R_law) (hml : c.maxLocals = 4) (hX : va_X b L xs s s.heap) (hbl : b < s.heap.size) (hl : lv_has ls 4 [(0, .ref b), (1, .ref (ad 0)), (2, .ref (bd 0)), (3, .int (nI i))]) (hOk : sg_Ok Df) (hu : xSt Df u) (hv : mSt Df v) (hw : cx_W D (xT ct ++ mT dt) (fun q : Nat => s.heap.size ≤ q) s s.heap H locs (xW ad ct u ++ mW bd dt v))
    (kk : ∀ (Df : sg_D) (u : xS) (v : mS) (H : Heap) (locs : List Loc), sg_Ok Df → xSt Df u → mSt Df v → cx_W D (xT ct ++ mT dt) (fun q : Nat => s.heap.size ≤ q) s s.heap H locs (xW ad ct u ++ mW bd dt v) → W p l e room_1 s m #[Value.ref b] below meth c H locs 19 3917 Q (F0 m 322 ls [])) : W p l e room_1 s m #[Value.ref b] below meth c H locs 19 3917 Q (F0 m 199 ls []) := by
  have hbA : ¬ (fun q : Nat => s.heap.size ≤ q) b := Nat.not_le.mpr hbl
  obtain ⟨fx, hfx⟩ := cl_hx ad ct u
  obtain ⟨fm, hfm⟩ := cl_hm bd dt v
  refine lv_aload_n hC.1 hC.2.1 dL_law_199 rfl (lv_at hl 1 rfl) ?_
  refine lv_aload_n hC.1 hC.2.1 dL_law_200 rfl (lv_at hl 0 rfl) ?_
  refine lv_iload_n hC.1 hC.2.1 dL_law_201 rfl (lv_at hl 3 rfl) ?_
  refine lv_iconst (v := nI 1) hC.1 hC.2.1 dL_law_202 (by decide) ?_
  refine xn_iadd (r := i + 1) hC rfl dL_law_203 ?_
  refine cl_sld (i := i + 1) hC hw hX hbl hbA hL (by omega) dL_law_204 ?_
  refine cl_call1 (ci := 0) (rest := []) (x_known l (D := Df) (x := xs (i + 1)) hOk) hC hml hl.1 hw hu (cwV 1 hC.2.2.2 (lw_V q172 q173 q174 q29 q175) rfl rfl rfl (by decide +kernel) ⟨Nat.le_of_ble_eq_true rfl, Nat.le_of_ble_eq_true rfl⟩) rfl hfx rfl rfl (Nat.le_of_ble_eq_true rfl) dL_law_205 ⟨Nat.le_of_ble_eq_true rfl, Nat.le_of_ble_eq_true rfl⟩ (fun r1 u1 H locs hp1 hw => ?_)
  refine lv_aload_n hC.1 hC.2.1 dL_law_208 rfl (lv_at hl 2 rfl) ?_
  refine lv_aload_n hC.1 hC.2.1 dL_law_209 rfl (lv_at hl 0 rfl) ?_
  refine lv_iload_n hC.1 hC.2.1 dL_law_210 rfl (lv_at hl 3 rfl) ?_
  refine lv_iconst (v := nI 1) hC.1 hC.2.1 dL_law_211 (by decide) ?_
  refine xn_iadd (r := i + 1) hC rfl dL_law_212 ?_
  refine cl_sld (i := i + 1) hC hw hX hbl hbA hL (by omega) dL_law_213 ?_
  refine cl_call2 (ci := 1) (rest := [.int r1]) (m_known l (D := Df) (x := xs (i + 1)) hOk) hC hml hl.1 hw hv (cwV 1 hC.2.2.2 (lw_V q276 q277 q278 q30 q279) rfl rfl rfl (by decide +kernel) ⟨Nat.le_of_ble_eq_true rfl, Nat.le_of_ble_eq_true rfl⟩) rfl hfm rfl rfl (Nat.le_of_ble_eq_true rfl) dL_law_214 ⟨Nat.le_of_ble_eq_true rfl, Nat.le_of_ble_eq_true rfl⟩ (fun r2 v1 H locs hp2 hw => ?_)
  exact lv_icmp_eq (tgt := 322) hC.1 hC.2.1 dL_law_217 (by decide) (fun _ => kk Df u1 v1 H locs hOk hp1.1 hp2.1 hw) (fun g => absurd (hp1.2.one hp2.2) g)
set_option maxHeartbeats 4000000 in
set_option maxRecDepth 100000 in
theorem law_firstAbove (hL : L ≤ 320) (hi : i + 5 ≤ L) (hC : cx_C p m c cL_law s #[Value.ref b] R_law) (hml : c.maxLocals = 4) (hX : va_X b L xs s s.heap) (hbl : b < s.heap.size) (hl : lv_has ls 4 [(0, .ref b), (1, .ref (ad 0)), (2, .ref (bd 0)), (3, .int (nI i))]) (hOk : sg_Ok Df) (hu : xSt Df u) (hv : mSt Df v) (hw : cx_W D (xT ct ++ mT dt) (fun q : Nat => s.heap.size ≤ q) s s.heap H locs (xW ad ct u ++ mW bd dt v))
    (kk : ∀ (Df : sg_D) (u : xS) (v : mS) (H : Heap) (locs : List Loc), sg_Ok Df → xSt Df u → mSt Df v → cx_W D (xT ct ++ mT dt) (fun q : Nat => s.heap.size ≤ q) s s.heap H locs (xW ad ct u ++ mW bd dt v) → W p l e room_1 s m #[Value.ref b] below meth c H locs 19 3917 Q (F0 m 322 ls [])) : W p l e room_1 s m #[Value.ref b] below meth c H locs 19 3917 Q (F0 m 222 ls []) := by
  have hbA : ¬ (fun q : Nat => s.heap.size ≤ q) b := Nat.not_le.mpr hbl
  obtain ⟨fx, hfx⟩ := cl_hx ad ct u
  obtain ⟨fm, hfm⟩ := cl_hm bd dt v
  refine lv_aload_n hC.1 hC.2.1 dL_law_222 rfl (lv_at hl 1 rfl) ?_
  refine lv_aload_n hC.1 hC.2.1 dL_law_223 rfl (lv_at hl 0 rfl) ?_
  refine lv_iload_n hC.1 hC.2.1 dL_law_224 rfl (lv_at hl 3 rfl) ?_
  refine lv_iconst (v := nI 1) hC.1 hC.2.1 dL_law_225 (by decide) ?_
  refine xn_iadd (r := i + 1) hC rfl dL_law_226 ?_
  refine cl_sld (i := i + 1) hC hw hX hbl hbA hL (by omega) dL_law_227 ?_
  refine lv_aload_n hC.1 hC.2.1 dL_law_228 rfl (lv_at hl 0 rfl) ?_
  refine lv_iload_n hC.1 hC.2.1 dL_law_229 rfl (lv_at hl 3 rfl) ?_
  refine lv_iconst (v := nI 2) hC.1 hC.2.1 dL_law_230 (by decide) ?_
  refine xn_iadd (r := i + 2) hC rfl dL_law_231 ?_
  refine cl_sld (i := i + 2) hC hw hX hbl hbA hL (by omega) dL_law_232 ?_
  refine cl_call1 (ci := 0) (rest := []) (x_firstAbove l (D := Df) (x := xs (i + 1)) (v := xs (i + 2)) hOk) hC hml hl.1 hw hu (cwV 2 hC.2.2.2 (lw_V q176 q177 q178 q29 q179) rfl rfl rfl (by decide +kernel) ⟨Nat.le_of_ble_eq_true rfl, Nat.le_of_ble_eq_true rfl⟩) rfl hfx rfl rfl (Nat.le_of_ble_eq_true rfl) dL_law_233 ⟨Nat.le_of_ble_eq_true rfl, Nat.le_of_ble_eq_true rfl⟩ (fun r1 u1 H locs hp1 hw => ?_)
  refine lv_aload_n hC.1 hC.2.1 dL_law_236 rfl (lv_at hl 2 rfl) ?_
  refine lv_aload_n hC.1 hC.2.1 dL_law_237 rfl (lv_at hl 0 rfl) ?_
  refine lv_iload_n hC.1 hC.2.1 dL_law_238 rfl (lv_at hl 3 rfl) ?_
  refine lv_iconst (v := nI 1) hC.1 hC.2.1 dL_law_239 (by decide) ?_
  refine xn_iadd (r := i + 1) hC rfl dL_law_240 ?_
  refine cl_sld (i := i + 1) hC hw hX hbl hbA hL (by omega) dL_law_241 ?_
  refine lv_aload_n hC.1 hC.2.1 dL_law_242 rfl (lv_at hl 0 rfl) ?_
  refine lv_iload_n hC.1 hC.2.1 dL_law_243 rfl (lv_at hl 3 rfl) ?_
  refine lv_iconst (v := nI 2) hC.1 hC.2.1 dL_law_244 (by decide) ?_
  refine xn_iadd (r := i + 2) hC rfl dL_law_245 ?_
  refine cl_sld (i := i + 2) hC hw hX hbl hbA hL (by omega) dL_law_246 ?_
  refine cl_call2 (ci := 1) (rest := [.int r1]) (m_firstAbove l (D := Df) (x := xs (i + 1)) (v := xs (i + 2)) hOk) hC hml hl.1 hw hv (cwV 2 hC.2.2.2 (lw_V q280 q281 q282 q30 q283) rfl rfl rfl (by decide +kernel) ⟨Nat.le_of_ble_eq_true rfl, Nat.le_of_ble_eq_true rfl⟩) rfl hfm rfl rfl (Nat.le_of_ble_eq_true rfl) dL_law_247 ⟨Nat.le_of_ble_eq_true rfl, Nat.le_of_ble_eq_true rfl⟩ (fun r2 v1 H locs hp2 hw => ?_)
  exact lv_icmp_eq (tgt := 322) hC.1 hC.2.1 dL_law_250 (by decide) (fun _ => kk Df u1 v1 H locs hOk hp1.1 hp2.1 hw) (fun g => absurd (hp1.2.one hp2.2) g)
set_option maxHeartbeats 4000000 in
set_option maxRecDepth 100000 in
theorem law_agree (hL : L ≤ 320) (hi : i + 5 ≤ L) (hC : cx_C p m c cL_law s #[Value.ref b] R_law) (hml : c.maxLocals = 4) (hX : va_X b L xs s s.heap) (hbl : b < s.heap.size) (hl : lv_has ls 4 [(0, .ref b), (1, .ref (ad 0)), (2, .ref (bd 0)), (3, .int (nI i))]) (hOk : sg_Ok Df) (hu : xSt Df u) (hv : mSt Df v) (hw : cx_W D (xT ct ++ mT dt) (fun q : Nat => s.heap.size ≤ q) s s.heap H locs (xW ad ct u ++ mW bd dt v))
    (kk : ∀ (Df : sg_D) (u : xS) (v : mS) (H : Heap) (locs : List Loc), sg_Ok Df → xSt Df u → mSt Df v → cx_W D (xT ct ++ mT dt) (fun q : Nat => s.heap.size ≤ q) s s.heap H locs (xW ad ct u ++ mW bd dt v) → W p l e room_1 s m #[Value.ref b] below meth c H locs 19 3917 Q (F0 m 322 ls [])) : W p l e room_1 s m #[Value.ref b] below meth c H locs 19 3917 Q (F0 m 255 ls []) := by
  have hbA : ¬ (fun q : Nat => s.heap.size ≤ q) b := Nat.not_le.mpr hbl
  obtain ⟨fx, hfx⟩ := cl_hx ad ct u
  obtain ⟨fm, hfm⟩ := cl_hm bd dt v
  refine lv_aload_n hC.1 hC.2.1 dL_law_255 rfl (lv_at hl 1 rfl) ?_
  refine lv_aload_n hC.1 hC.2.1 dL_law_256 rfl (lv_at hl 0 rfl) ?_
  refine lv_iload_n hC.1 hC.2.1 dL_law_257 rfl (lv_at hl 3 rfl) ?_
  refine lv_iconst (v := nI 1) hC.1 hC.2.1 dL_law_258 (by decide) ?_
  refine xn_iadd (r := i + 1) hC rfl dL_law_259 ?_
  refine cl_sld (i := i + 1) hC hw hX hbl hbA hL (by omega) dL_law_260 ?_
  refine lv_aload_n hC.1 hC.2.1 dL_law_261 rfl (lv_at hl 0 rfl) ?_
  refine lv_iload_n hC.1 hC.2.1 dL_law_262 rfl (lv_at hl 3 rfl) ?_
  refine lv_iconst (v := nI 2) hC.1 hC.2.1 dL_law_263 (by decide) ?_
  refine xn_iadd (r := i + 2) hC rfl dL_law_264 ?_
  refine cl_sld (i := i + 2) hC hw hX hbl hbA hL (by omega) dL_law_265 ?_
  refine cl_call1 (ci := 0) (rest := []) (x_agree l (D := Df) (x := xs (i + 1)) (y := xs (i + 2)) hOk) hC hml hl.1 hw hu (cwV 2 hC.2.2.2 (lw_V q180 q181 q182 q29 q183) rfl rfl rfl (by decide +kernel) ⟨Nat.le_of_ble_eq_true rfl, Nat.le_of_ble_eq_true rfl⟩) rfl hfx rfl rfl (Nat.le_of_ble_eq_true rfl) dL_law_266 ⟨Nat.le_of_ble_eq_true rfl, Nat.le_of_ble_eq_true rfl⟩ (fun r1 u1 H locs hp1 hw => ?_)
  refine lv_aload_n hC.1 hC.2.1 dL_law_269 rfl (lv_at hl 2 rfl) ?_
  refine lv_aload_n hC.1 hC.2.1 dL_law_270 rfl (lv_at hl 0 rfl) ?_
  refine lv_iload_n hC.1 hC.2.1 dL_law_271 rfl (lv_at hl 3 rfl) ?_
  refine lv_iconst (v := nI 1) hC.1 hC.2.1 dL_law_272 (by decide) ?_
  refine xn_iadd (r := i + 1) hC rfl dL_law_273 ?_
  refine cl_sld (i := i + 1) hC hw hX hbl hbA hL (by omega) dL_law_274 ?_
  refine lv_aload_n hC.1 hC.2.1 dL_law_275 rfl (lv_at hl 0 rfl) ?_
  refine lv_iload_n hC.1 hC.2.1 dL_law_276 rfl (lv_at hl 3 rfl) ?_
  refine lv_iconst (v := nI 2) hC.1 hC.2.1 dL_law_277 (by decide) ?_
  refine xn_iadd (r := i + 2) hC rfl dL_law_278 ?_
  refine cl_sld (i := i + 2) hC hw hX hbl hbA hL (by omega) dL_law_279 ?_
  refine cl_call2 (ci := 1) (rest := [.int r1]) (m_agree l (D := Df) (x := xs (i + 1)) (y := xs (i + 2)) hOk) hC hml hl.1 hw hv (cwV 2 hC.2.2.2 (lw_V q284 q285 q286 q30 q287) rfl rfl rfl (by decide +kernel) ⟨Nat.le_of_ble_eq_true rfl, Nat.le_of_ble_eq_true rfl⟩) rfl hfm rfl rfl (Nat.le_of_ble_eq_true rfl) dL_law_280 ⟨Nat.le_of_ble_eq_true rfl, Nat.le_of_ble_eq_true rfl⟩ (fun r2 v1 H locs hp2 hw => ?_)
  exact lv_icmp_eq (tgt := 322) hC.1 hC.2.1 dL_law_283 (by decide) (fun _ => kk Df u1 v1 H locs hOk hp1.1 hp2.1 hw) (fun g => absurd (hp1.2.one hp2.2) g)
set_option maxHeartbeats 4000000 in
set_option maxRecDepth 100000 in
theorem law_kind (hL : L ≤ 320) (hi : i + 5 ≤ L) (hC : cx_C p m c cL_law s #[Value.ref b] R_law) (hml : c.maxLocals = 4) (hX : va_X b L xs s s.heap) (hbl : b < s.heap.size) (hl : lv_has ls 4 [(0, .ref b), (1, .ref (ad 0)), (2, .ref (bd 0)), (3, .int (nI i))]) (hOk : sg_Ok Df) (hu : xSt Df u) (hv : mSt Df v) (hw : cx_W D (xT ct ++ mT dt) (fun q : Nat => s.heap.size ≤ q) s s.heap H locs (xW ad ct u ++ mW bd dt v))
    (kk : ∀ (Df : sg_D) (u : xS) (v : mS) (H : Heap) (locs : List Loc), sg_Ok Df → xSt Df u → mSt Df v → cx_W D (xT ct ++ mT dt) (fun q : Nat => s.heap.size ≤ q) s s.heap H locs (xW ad ct u ++ mW bd dt v) → W p l e room_1 s m #[Value.ref b] below meth c H locs 19 3917 Q (F0 m 322 ls [])) : W p l e room_1 s m #[Value.ref b] below meth c H locs 19 3917 Q (F0 m 288 ls []) := by
  have hbA : ¬ (fun q : Nat => s.heap.size ≤ q) b := Nat.not_le.mpr hbl
  obtain ⟨fx, hfx⟩ := cl_hx ad ct u
  obtain ⟨fm, hfm⟩ := cl_hm bd dt v
  refine lv_aload_n hC.1 hC.2.1 dL_law_288 rfl (lv_at hl 1 rfl) ?_
  refine lv_aload_n hC.1 hC.2.1 dL_law_289 rfl (lv_at hl 0 rfl) ?_
  refine lv_iload_n hC.1 hC.2.1 dL_law_290 rfl (lv_at hl 3 rfl) ?_
  refine lv_iconst (v := nI 1) hC.1 hC.2.1 dL_law_291 (by decide) ?_
  refine xn_iadd (r := i + 1) hC rfl dL_law_292 ?_
  refine cl_sld (i := i + 1) hC hw hX hbl hbA hL (by omega) dL_law_293 ?_
  refine cl_call1 (ci := 0) (rest := []) (x_kind l (D := Df) (x := xs (i + 1)) hOk) hC hml hl.1 hw hu (cwV 1 hC.2.2.2 (lw_V q184 q185 q186 q29 q187) rfl rfl rfl (by decide +kernel) ⟨Nat.le_of_ble_eq_true rfl, Nat.le_of_ble_eq_true rfl⟩) rfl hfx rfl rfl (Nat.le_of_ble_eq_true rfl) dL_law_294 ⟨Nat.le_of_ble_eq_true rfl, Nat.le_of_ble_eq_true rfl⟩ (fun r1 u1 H locs hp1 hw => ?_)
  refine lv_aload_n hC.1 hC.2.1 dL_law_297 rfl (lv_at hl 2 rfl) ?_
  refine lv_aload_n hC.1 hC.2.1 dL_law_298 rfl (lv_at hl 0 rfl) ?_
  refine lv_iload_n hC.1 hC.2.1 dL_law_299 rfl (lv_at hl 3 rfl) ?_
  refine lv_iconst (v := nI 1) hC.1 hC.2.1 dL_law_300 (by decide) ?_
  refine xn_iadd (r := i + 1) hC rfl dL_law_301 ?_
  refine cl_sld (i := i + 1) hC hw hX hbl hbA hL (by omega) dL_law_302 ?_
  refine cl_call2 (ci := 1) (rest := [.int r1]) (m_kind l (D := Df) (x := xs (i + 1)) hOk) hC hml hl.1 hw hv (cwV 1 hC.2.2.2 (lw_V q288 q289 q290 q30 q291) rfl rfl rfl (by decide +kernel) ⟨Nat.le_of_ble_eq_true rfl, Nat.le_of_ble_eq_true rfl⟩) rfl hfm rfl rfl (Nat.le_of_ble_eq_true rfl) dL_law_303 ⟨Nat.le_of_ble_eq_true rfl, Nat.le_of_ble_eq_true rfl⟩ (fun r2 v1 H locs hp2 hw => ?_)
  exact lv_icmp_eq (tgt := 322) hC.1 hC.2.1 dL_law_306 (by decide) (fun _ => kk Df u1 v1 H locs hOk hp1.1 hp2.1 hw) (fun g => absurd (hp1.2.one hp2.2) g)
set_option maxHeartbeats 4000000 in
set_option maxRecDepth 100000 in
theorem law_reset (hL : L ≤ 320) (hi : i + 5 ≤ L) (hC : cx_C p m c cL_law s #[Value.ref b] R_law) (hml : c.maxLocals = 4) (hX : va_X b L xs s s.heap) (hbl : b < s.heap.size) (hl : lv_has ls 4 [(0, .ref b), (1, .ref (ad 0)), (2, .ref (bd 0)), (3, .int (nI i))]) (hOk : sg_Ok Df) (hu : xSt Df u) (hv : mSt Df v) (hw : cx_W D (xT ct ++ mT dt) (fun q : Nat => s.heap.size ≤ q) s s.heap H locs (xW ad ct u ++ mW bd dt v))
    (kk : ∀ (Df : sg_D) (u : xS) (v : mS) (H : Heap) (locs : List Loc), sg_Ok Df → xSt Df u → mSt Df v → cx_W D (xT ct ++ mT dt) (fun q : Nat => s.heap.size ≤ q) s s.heap H locs (xW ad ct u ++ mW bd dt v) → W p l e room_1 s m #[Value.ref b] below meth c H locs 19 3917 Q (F0 m 322 ls [])) : W p l e room_1 s m #[Value.ref b] below meth c H locs 19 3917 Q (F0 m 311 ls []) := by
  have hbA : ¬ (fun q : Nat => s.heap.size ≤ q) b := Nat.not_le.mpr hbl
  obtain ⟨fx, hfx⟩ := cl_hx ad ct u
  obtain ⟨fm, hfm⟩ := cl_hm bd dt v
  refine lv_aload_n hC.1 hC.2.1 dL_law_311 rfl (lv_at hl 1 rfl) ?_
  refine cl_callv1 (ci := 0) (rest := []) (x_reset l (D := Df) hOk) hC hml hl.1 hw hu (cwV 0 hC.2.2.2 (lw_V q188 q189 q190 q29 q191) rfl rfl rfl (by decide +kernel) ⟨Nat.le_of_ble_eq_true rfl, Nat.le_of_ble_eq_true rfl⟩) rfl hfx rfl rfl (Nat.le_of_ble_eq_true rfl) dL_law_312 ⟨Nat.le_of_ble_eq_true rfl, Nat.le_of_ble_eq_true rfl⟩ (fun u1 H locs hp1 hw => ?_)
  refine lv_aload_n hC.1 hC.2.1 dL_law_315 rfl (lv_at hl 2 rfl) ?_
  refine cl_callv2 (ci := 1) (rest := []) (m_reset l (D := Df) hOk) hC hml hl.1 hw hv (cwV 0 hC.2.2.2 (lw_V q292 q293 q294 q30 q295) rfl rfl rfl (by decide +kernel) ⟨Nat.le_of_ble_eq_true rfl, Nat.le_of_ble_eq_true rfl⟩) rfl hfm rfl rfl (Nat.le_of_ble_eq_true rfl) dL_law_316 ⟨Nat.le_of_ble_eq_true rfl, Nat.le_of_ble_eq_true rfl⟩ (fun v1 H locs hp2 hw => ?_)
  refine lv_goto (tgt := 322) hC.1 hC.2.1 dL_law_319 (by decide) ?_
  exact kk _ u1 v1 H locs (sg_rs_ok hOk 6) hp1 hp2 hw
end
set_option maxHeartbeats 4000000 in
set_option maxRecDepth 100000 in
theorem law_loop {p : Program} {l : Launch} {e : Env} {s : State} {m : MethodId} {below : List Frame} {meth : Method} {c : Code} {D : va_G} {ad bd : Nat → Nat} {ct dt : Nat → ClassId} {b L : Nat} {xs : Nat → Int32} (hL : L ≤ 320) (C0 : lw_At p s m meth c b L xs) :
    ∀ (n i : Nat), i ≤ L → L + 1 ≤ i + n → ∀ (Df : sg_D) (u : xS) (v : mS), sg_Ok Df → xSt Df u → mSt Df v → ∀ (H : Heap) (locs : List Loc), cx_W D (xT ct ++ mT dt) (fun q : Nat => s.heap.size ≤ q) s s.heap H locs (xW ad ct u ++ mW bd dt v) → ∀ (ls : Array Slot), lv_has ls 4 [(0, .ref b), (1, .ref (ad 0)), (2, .ref (bd 0)), (3, .int (nI i))] → W p l e room_1 s m #[Value.ref b] below meth c H locs 19 3917 (lw_Z below #[Value.ref b] s) (F0 m 18 ls []) := by
  obtain ⟨hx, hb, hr, hml, hown, hts, hX, hbl, hlocks, hgv⟩ := C0
  have hC : cx_C p m c cL_law s #[Value.ref b] R_law := ⟨hx, hb, hown, fun w h => hts w (lw_all_tbl h)⟩
  have hbA : ¬ (fun q : Nat => s.heap.size ≤ q) b := Nat.not_le.mpr hbl
  intro n
  induction n with
  | zero =>
    intro i h1 h2
    exact absurd h2 (by omega)
  | succ n ih =>
    intro i hi hin Df u v hOk hu hv H locs hw ls hl
    refine lv_iload_n hC.1 hC.2.1 dL_law_18 rfl (lv_at hl 3 rfl) ?_
    refine lv_aload_n hC.1 hC.2.1 dL_law_19 rfl (lv_at hl 0 rfl) ?_
    refine cl_slen hC hw hX hbl hbA dL_law_20 ?_
    refine lv_iconst (v := nI 5) hC.1 hC.2.1 dL_law_21 (by decide) ?_
    refine lv_isub hC.1 hC.2.1 dL_law_22 ?_
    refine lv_icmp_gt (tgt := 328) hC.1 hC.2.1 dL_law_23 (by decide) (fun g => ?_) (fun g => ?_)
    · refine lv_iconst (v := 1) hC.1 hC.2.1 dL_law_328 (by decide) ?_
      refine va_forget (fun q hq => hw.2.2.2.1.2.2 q hq) ?_
      refine W.widen (k := 600000) (n := 7290000) (Nat.le_of_ble_eq_true rfl) (Nat.le_of_ble_eq_true rfl) ?_
      exact lw_ret hx hb hr hlocks dL_law_329
    · have hi5 : i + 5 ≤ L := cl_end hL hi g
      have kk : ∀ (Df : sg_D) (u : xS) (v : mS) (H : Heap) (locs : List Loc), sg_Ok Df → xSt Df u → mSt Df v → cx_W D (xT ct ++ mT dt) (fun q : Nat => s.heap.size ≤ q) s s.heap H locs (xW ad ct u ++ mW bd dt v) → W p l e room_1 s m #[Value.ref b] below meth c H locs 19 3917 (lw_Z below #[Value.ref b] s) (F0 m 322 ls []) := by
        intro Df u v H locs hOk hu hv hw
        refine lv_iinc (v := nI (i + 5)) (lv' := [(3, .int (nI (i + 5))), (0, .ref b), (1, .ref (ad 0)), (2, .ref (bd 0))]) hC.1 hC.2.1 dL_law_322 hl (k := 3) rfl (nI_add i 5) (by decide) rfl (fun ls hl => ?_)
        refine lv_goto (tgt := 18) hC.1 hC.2.1 dL_law_325 (by decide) ?_
        exact ih (i + 5) hi5 (by omega) Df u v hOk hu hv H locs hw ls (lv_sub hl [1, 2, 3, 0] rfl)
      refine lv_aload_n hC.1 hC.2.1 dL_law_26 rfl (lv_at hl 0 rfl) ?_
      refine lv_iload_n hC.1 hC.2.1 dL_law_27 rfl (lv_at hl 3 rfl) ?_
      refine cl_sld hC hw hX hbl hbA hL (by omega) dL_law_28 ?_
      refine lv_bipush (v := 7) hC.1 hC.2.1 dL_law_29 (by decide) ?_
      refine lv_iand hC.1 hC.2.1 dL_law_31 ?_
      obtain ⟨j, hj, ej⟩ := pk_andE (xs i) (m := 7) 3 (by decide)
      rw [ej]
      rcases (show j = 0 ∨ j = 1 ∨ j = 2 ∨ j = 3 ∨ j = 4 ∨ j = 5 ∨ j = 6 ∨ j = 7 by omega) with rfl | rfl | rfl | rfl | rfl | rfl | rfl | rfl
      · refine lv_tableIn (off := 48) (tgt := 80) hC.1 hC.2.1 dL_law_32 (by decide +kernel) (by decide +kernel) (by decide +kernel) (by decide) ?_
        exact law_define hL hi5 hC hml hX hbl hl hOk hu hv hw kk
      · refine lv_tableIn (off := 101) (tgt := 133) hC.1 hC.2.1 dL_law_32 (by decide +kernel) (by decide +kernel) (by decide +kernel) (by decide) ?_
        exact law_ready hL hi5 hC hml hX hbl hl hOk hu hv hw kk
      · refine lv_tableIn (off := 134) (tgt := 166) hC.1 hC.2.1 dL_law_32 (by decide +kernel) (by decide +kernel) (by decide +kernel) (by decide) ?_
        exact law_element hL hi5 hC hml hX hbl hl hOk hu hv hw kk
      · refine lv_tableIn (off := 167) (tgt := 199) hC.1 hC.2.1 dL_law_32 (by decide +kernel) (by decide +kernel) (by decide +kernel) (by decide) ?_
        exact law_known hL hi5 hC hml hX hbl hl hOk hu hv hw kk
      · refine lv_tableIn (off := 190) (tgt := 222) hC.1 hC.2.1 dL_law_32 (by decide +kernel) (by decide +kernel) (by decide +kernel) (by decide) ?_
        exact law_firstAbove hL hi5 hC hml hX hbl hl hOk hu hv hw kk
      · refine lv_tableIn (off := 223) (tgt := 255) hC.1 hC.2.1 dL_law_32 (by decide +kernel) (by decide +kernel) (by decide +kernel) (by decide) ?_
        exact law_agree hL hi5 hC hml hX hbl hl hOk hu hv hw kk
      · refine lv_tableIn (off := 256) (tgt := 288) hC.1 hC.2.1 dL_law_32 (by decide +kernel) (by decide +kernel) (by decide +kernel) (by decide) ?_
        exact law_kind hL hi5 hC hml hX hbl hl hOk hu hv hw kk
      · refine lv_tableIn (off := 279) (tgt := 311) hC.1 hC.2.1 dL_law_32 (by decide +kernel) (by decide +kernel) (by decide +kernel) (by decide) ?_
        exact law_reset hL hi5 hC hml hX hbl hl hOk hu hv hw kk
end
section
/-! THE LAW from its entry -/
theorem cl_x0 : xSt (fun _ => 0, fun _ => 0, fun _ => 0) x0 := ⟨rfl, Nat.zero_le _, fun h => absurd h (by decide)⟩
theorem cl_m0 : mSt (fun _ => 0, fun _ => 0, fun _ => 0) m0 := ⟨rfl, fun _ _ => Nat.zero_le _⟩
theorem cl_d0 : sg_Ok (fun _ => 0, fun _ => 0, fun _ => 0) := by
  intro s _
  refine ⟨Nat.zero_le _, fun h => ?_, fun h => ?_⟩
  · have h : sg_usA 0 := h
    exact absurd h (by unfold sg_usA; omega)
  · have h : sg_usB 0 := h
    exact absurd h (by unfold sg_usB; omega)
set_option maxHeartbeats 4000000 in
set_option maxRecDepth 100000 in
/-- YOUR PART: from the entry, for every script of at most 320 ints, the law comes to its end with true -/
theorem whole_start {p : Program} {e : Env} {s : State} {m : MethodId} {below : List Frame} {meth : Method} {c : Code} (l : Launch) {b L : Nat} {xs : Nat → Int32} (hL : L ≤ 320) (C0 : lw_At p s m meth c b L xs) : W p l e room_1 s m #[Value.ref b] below meth c s.heap [] 0 0 (lw_Z below #[Value.ref b] s) (entryFrame m ([Value.ref b] : List Value).toArray 4) := by
  obtain ⟨hx, hb, hr, hml, hown, hts0, hX, hbl, hlocks, hgv⟩ := id C0
  have hts : ∀ w ∈ lw_all, w.before #[Value.ref b] s = true := fun w h => hts0 w (lw_all_tbl h)
  have hC : cx_C p m c cL_law s #[Value.ref b] R_law := ⟨hx, hb, hown, hts⟩
  have hA : ∀ q : Nat, s.heap.size ≤ q → (fun q : Nat => s.heap.size ≤ q) q := fun _ h => h
  have hbA : ¬ (fun q : Nat => s.heap.size ≤ q) b := Nat.not_le.mpr hbl
  obtain ⟨c0, iS0, hKn0⟩ := u_known (C := RX0) (T := TX0) (N := 16) (n := 16) hts in_X0 (hts _ q32)
  obtain ⟨c1, iS1, hKn1⟩ := u_known (C := RX1) (T := TX1) (N := 7) (n := 7) hts in_X1 (hts _ q193)
  obtain ⟨dC, dI, hKc⟩ : ∃ (dC : Nat → ClassId) (dI : Nat → Nat → Nat), ∀ (k : Nat) (q : vw_C), vwCl[k]? = some q → u_Kn s q.1 q.2.1 q.2.2 (dC k) (dI k) := by
    refine ⟨fun k => if k = 0 then c0 else c1, fun k => if k = 0 then iS0 else iS1, ?_⟩
    intro k q hq
    match k, hq with
    | 0, hq => cases hq; exact hKn0
    | 1, hq => cases hq; exact hKn1
    | k + 2, hq => simp [vwCl] at hq
  have hS : va_S (fun q : Nat => s.heap.size ≤ q) s.heap s.heap [] := va_S.rf
  have hK : va_K (dC, dI) vwCl [] s := ⟨hKc, fun k q h => by simp at h⟩
  have hP : va_P (dC, dI) vwCl [] s.heap := fun k q h => by simp at h
  have hD : va_D (fun q : Nat => s.heap.size ≤ q) [] := ⟨fun i j p q h => by simp at h, fun k q h => by simp at h⟩
  have hl := lv_entry ([.ref b]) (n := 4) (Nat.le_of_ble_eq_true rfl)
  rw [lg_entry_eq]
  generalize (lg_sl ([.ref b]) ++ List.replicate (4 - (lg_sl ([.ref b])).length) Slot.unset).toArray = ls at hl ⊢
  have hl : lv_has ls 4 [(0, .ref b)] := hl
  refine va_new (ci := 0) (fs := [.null, .null, .null, .int 0, .int 0, .int 0, .null, .null, .null, .null, .null, .null, .null, .null, .null, .int 0]) (C := RX0) (T := TX0) (N := 16) hx hb hts in_X0 tyX0 tyX0_ok hown (hts _ q31) (hts _ q32) (hts _ q29) hK hP hD hS hA rfl (fun j hj => by rcases (show j = 0 ∨ j = 1 ∨ j = 2 ∨ j = 3 ∨ j = 4 ∨ j = 5 ∨ j = 6 ∨ j = 7 ∨ j = 8 ∨ j = 9 ∨ j = 10 ∨ j = 11 ∨ j = 12 ∨ j = 13 ∨ j = 14 ∨ j = 15 by omega) with rfl | rfl | rfl | rfl | rfl | rfl | rfl | rfl | rfl | rfl | rfl | rfl | rfl | rfl | rfl | rfl <;> rfl) (Nat.le_of_ble_eq_true rfl) (Nat.le_of_ble_eq_true rfl) dL_law_0 (fun qx H hP hD hS => ?_)
  refine W.widen (k := 1) (n := 16) (Nat.le_of_ble_eq_true rfl) (Nat.le_of_ble_eq_true rfl) ?_
  refine lv_dup hx hb dL_law_3 rfl ?_
  refine cl_ctor (e0 := .inr (0, [.null, .null, .null, .int 0, .int 0, .int 0, .null, .null, .null, .null, .null, .null, .null, .null, .null, .int 0])) (wz := fun a t => xW a t x0) (tys := xT) (wo := []) (to := []) (mc := 12) (ms := 3624) (rest := [.ref qx]) (fun sz => x_init l (dC, dI) qx sz) hC hml hl.1 ⟨hK, hP, hD, hS, hA⟩ (cwI 0 hts (lw_meth q35) rfl rfl rfl (hts _ q29) (hts _ q33) (hts _ q34) rfl (by decide +kernel) ⟨Nat.le_of_ble_eq_true rfl, Nat.le_of_ble_eq_true rfl⟩) (Nat.le_of_ble_eq_true rfl) dL_law_4 ⟨Nat.le_of_ble_eq_true rfl, Nat.le_of_ble_eq_true rfl⟩ (fun ad ct H locsx hqx hw => ?_)
  subst hqx
  refine W.widen (k := 13) (n := 3640) (Nat.le_of_ble_eq_true rfl) (Nat.le_of_ble_eq_true rfl) ?_
  refine lv_astore_n (lv' := [(1, .ref (ad 0)), (0, .ref b)]) hx hb dL_law_7 rfl hl (by decide) rfl (fun ls hl => ?_)
  obtain ⟨hK, hP, hD, hS, -⟩ := hw
  have hK : va_K (dC, dI) vwCl (xT ct) s := hK
  have hP : va_P (dC, dI) vwCl (xW ad ct x0) H := hP
  have hD : va_D (fun q : Nat => s.heap.size ≤ q) (xW ad ct x0) := hD
  refine va_new (ci := 1) (fs := [.null, .null, .null, .null, .null, .int 0, .int 0]) (C := RX1) (T := TX1) (N := 7) hx hb hts in_X1 tyX1 tyX1_ok hown (hts _ q192) (hts _ q193) (hts _ q30) hK hP hD hS hA rfl (fun j hj => by rcases (show j = 0 ∨ j = 1 ∨ j = 2 ∨ j = 3 ∨ j = 4 ∨ j = 5 ∨ j = 6 by omega) with rfl | rfl | rfl | rfl | rfl | rfl | rfl <;> rfl) (Nat.le_of_ble_eq_true rfl) (Nat.le_of_ble_eq_true rfl) dL_law_8 (fun qm H hP hD hS => ?_)
  refine W.widen (k := 14) (n := 3647) (Nat.le_of_ble_eq_true rfl) (Nat.le_of_ble_eq_true rfl) ?_
  refine lv_dup hx hb dL_law_11 rfl ?_
  refine cl_ctor (e0 := .inr (1, [.null, .null, .null, .null, .null, .int 0, .int 0])) (wz := fun a t => mW a t m0) (tys := mT) (wo := xW ad ct x0) (to := xT ct) (mc := 5) (ms := 270) (rest := [.ref qm]) (fun sz => m_init l (dC, dI) qm sz) hC hml hl.1 ⟨hK, hP, hD, hS, hA⟩ (cwI 0 hts (lw_meth q196) rfl rfl rfl (hts _ q30) (hts _ q194) (hts _ q195) rfl (by decide +kernel) ⟨Nat.le_of_ble_eq_true rfl, Nat.le_of_ble_eq_true rfl⟩) (Nat.le_of_ble_eq_true rfl) dL_law_12 ⟨Nat.le_of_ble_eq_true rfl, Nat.le_of_ble_eq_true rfl⟩ (fun bd dt H locsm hqm hw => ?_)
  subst hqm
  refine W.widen (k := 19) (n := 3917) (Nat.le_of_ble_eq_true rfl) (Nat.le_of_ble_eq_true rfl) ?_
  refine lv_astore_n (lv' := [(2, .ref (bd 0)), (1, .ref (ad 0)), (0, .ref b)]) hx hb dL_law_15 rfl hl (by decide) rfl (fun ls hl => ?_)
  refine lv_iconst (v := nI 0) hx hb dL_law_16 (by decide) ?_
  refine lv_istore_n (lv' := [(3, .int (nI 0)), (2, .ref (bd 0)), (1, .ref (ad 0)), (0, .ref b)]) hx hb dL_law_17 rfl hl (by decide) rfl (fun ls hl => ?_)
  exact law_loop hL C0 (L + 1) 0 (Nat.zero_le L) (by omega) _ x0 m0 cl_d0 cl_x0 cl_m0 H _ hw ls (lv_sub hl [3, 2, 1, 0] rfl)
end
section
/-! THE CLAIM (out of the skeleton) -/
set_option maxHeartbeats 4000000 in
theorem lw_walk (l : Launch) (b : Addr) (xs : List Int32) : MetFree l x (headSpec (Jvm.Cond.code x code maxLocals ret :: tables_1) room_1) (lw_P b xs) (fun _ _ _ _ _ => True) lw_Q := by
  refine MetFree.of_bodyS (code := code) (maxLocals := maxLocals) (ret := ret) (by decide) ?_ ?_
  · intro args s m h hn
    obtain ⟨meth, c, h1, h2, h3, h4, h5, h6, -, -⟩ := Cond.code_spec hn (atoms_spec (ws := Jvm.Cond.code x code maxLocals ret :: tables_1) h _ List.mem_cons_self)
    exact ⟨meth, c, h1, h2, h3, h4, h5, h6⟩
  · intro p e s m args below meth c s₁ B hml0 hP _
    obtain ⟨rfl, hx, hbd, hgv⟩ := hP
    obtain ⟨scr, harrAt, hlist, hof, hsmall⟩ := hx
    obtain ⟨hcb, hkn, -, -⟩ := State.arrayAt?_spec harrAt
    have hown : s.vm.findClass R_law = some m.cls := findClass_of_methodNamed B.named
    have hts0 : ∀ c ∈ (Jvm.Cond.code x code maxLocals ret :: tables_1), c.before #[Value.ref b] s = true := atoms_spec (ws := Jvm.Cond.code x code maxLocals ret :: tables_1) B.pre
    have hts : ∀ w ∈ lw_tbl, w.before #[Value.ref b] s = true := k2_hts_sels lw_privs (fun w hw => hts0 w (List.mem_cons_of_mem _ hw)) lw_privs_ok
    have hml : c.maxLocals = 4 := B.maxLocals_eq (hts0 _ List.mem_cons_self)
    have X₀ : Stand p l e room_1 s m #[Value.ref b] below meth c s₁ [] 0 0 := Stand.of_body B
    have hh0 : s₁.heap = s.heap := by rw [B.state]; rfl
    have hsz : scr.slots.size = xs.length := by rw [← Array.length_toList, hlist, List.length_map]
    have hval : ∀ j : Nat, j < xs.length → scr.slots[j]? = some (.int (xs.getD j 0)) := fun j hj => by
      rw [← Array.getElem?_toList, hlist]
      simp [hj]
    have hbl : b < s.heap.size := (Array.getElem?_eq_some_iff.mp hcb).1
    have hX : va_X b xs.length (fun j => xs.getD j 0) s s.heap := ⟨scr, hcb, hof, hkn, hsz, hval⟩
    have K : W p l e room_1 s m #[Value.ref b] below meth c s₁.heap [] 0 0 (lw_Z below #[Value.ref b] s) (entryFrame m ([Value.ref b] : List Value).toArray 4) := by
      rw [hh0]
      exact whole_start l hbd ⟨B.exec, B.bytes, B.returns, hml, hown, hts, hX, hbl, B.notSynchronized, hgv⟩
    obtain ⟨t, a1, o, b1, b2, b3⟩ := K s₁ rfl X₀
    exact ⟨t, o, a1, b1, b2, b3⟩
theorem lw_pre_spec {args : Array Value} {s : State} (h : (Jvm.Cond.and given_1 narrow_1).before args s = true) (hr : rest_1_c.before args s = true) : ∃ (b : Addr) (xs : List Int32), lw_P b xs args s := by
  have hs := flat_of_before _ h
  have hq := flat_of_before _ hr
  have hc : (Cond.count 1).before args s = true := hs _ (by decide +kernel)
  have harr : (Cond.arrayOf (.arg 0) .int).before args s = true := hs _ (by decide +kernel)
  have hle : (Cond.le (.length (.arg 0)) (.int 320)).before args s = true := hs _ (by decide +kernel)
  have hlen : (Cond.isInt (.length (.arg 0))).before args s = true := hq _ (by decide +kernel)
  have hall : (Cond.all (.arg 0) (.isInt (.elem (.arg 0) (.index 0)))).before args s = true := hq _ (by decide +kernel)
  obtain ⟨b, xs, hb, hx⟩ := State.ints_of_pre rfl harr hlen hall
  have hsm : xs.length < 2 ^ 31 := hx.choose_spec.2.2.2
  have hev : (Term.length (.arg 0)).eval args s none [] s = some (.int xs.length.toInt32) := hx.length_eval hb
  have hv := Cond.le_ints hev (show (Term.int 320).eval args s none [] s = some (.int 320) from rfl)
  have hd : xs.length.toInt32 ≤ 320 := by
    simpa [Cond.before, Cond.holds, hv] using hle
  have hN : xs.length ≤ 320 := (Int32.ofNat_le_ofNat hsm (by decide)).mp (show Int32.ofNat xs.length ≤ Int32.ofNat 320 from hd)
  exact ⟨b, xs, Cond.one_arg hc (show args[0]? = some (.ref b) from hb), hx, hN, h⟩
theorem lw_comes (l : Launch) : Comes l x (Jvm.Cond.code x code maxLocals ret :: tables_1) room_1 (fun tb e args s => Calls_1 tb e args s ∧ rest_1 tb e args s ∧ Pre_1 tb e args s)
    (fun _ _ args s o t => lw_Q args s o t) := by
  intro p e ha hc hk s m args below hf hfit hheap happ hpre
  obtain ⟨b, xs, hP⟩ := lw_pre_spec hpre.2.2 hpre.2.1
  obtain ⟨k, o, h1, h2, h3, hQ⟩ := lw_walk l b xs p e ha hc hk s m args below hf ((Spec.applies_iff_loose hf).mp happ).1 hP trivial
  exact ⟨k, o, h1, h2, h3, hQ⟩
theorem lw_frame {s t : State} {o : Outcome} {args : Array Value} (h : Framed s o t [] 600000 7290000) :
    Framed s o t (fieldLocs frame_1_writes args s ++ arrayLocs frame_1_arrays args s ++ staticLocs frame_1_statics s) 600000 7290000 := h
theorem lw_limb (L : Cond) (hL : ∀ (args : Array Value) (s t : State), L.after args s (.returned (some (.int 1))) t = true) :
    ArmFor flags0 classFile x code maxLocals ret World_1 tables_1 room_1 Calls_1 rest_1 Pre_1
      (fun tb e a s o t => postC L tb e a s o t ∧ Framed s o t (fieldLocs frame_1_writes a s ++ arrayLocs frame_1_arrays a s ++ staticLocs frame_1_statics s) 600000 7290000) := by
  intro l _ _ _ p e ha hc hk s m args below hf hfit hheap happ hpre
  obtain ⟨k, o, h1, h2, h3, rfl, hF⟩ := lw_comes l p e ha hc hk s m args below hf hfit hheap happ hpre
  exact ⟨k, _, h1, h2, h3, hL args s _, lw_frame hF⟩
theorem i_vc : Claimed_1_1 ∧ Claimed_1_2 := ⟨lw_limb limb_1_1 (fun args s t => by simp [limb_1_1, Cond.after, Cond.holds, Cond.value]), lw_limb limb_1_2 (fun args s t => Cond.after_iff.mpr (by
  first | (rw [show limb_1_2 = Cond.eq .result (.int 1) from rfl, Cond.eq_ints (x := 1) (y := 1) rfl rfl]; simp; done) | (simp [limb_1_2, Cond.value, Term.eval]; done)))⟩
end
