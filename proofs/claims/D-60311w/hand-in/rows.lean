section
-- ===== PART A: goes FIRST, ahead of the names: the tables' words, and 'selects' of the private methods out of them =====
/-- a private method of a class that the tables say can be made, by its rows of tables_1 -/
def lw_okq (q : MethodName × Nat) : Prop := (q.1.cls ≠ "java/lang/invoke/MethodHandle" ∧ q.1.cls ≠ "java/lang/invoke/VarHandle") ∧ Cond.instantiable q.1.cls q.2 ∈ tables_1 ∧ Cond.privateMethod q.1 ∈ tables_1 ∧ Cond.instanceMethod q.1 ∈ tables_1
set_option maxRecDepth 100000
theorem lw_p0 : lw_okq (⟨"ArgumentLabeller", "isArgument", "(I)Z"⟩, 16) := ⟨⟨by decide +kernel, by decide +kernel⟩, List.mem_of_getElem? (i := 4) rfl, List.mem_of_getElem? (i := 67) rfl, List.mem_of_getElem? (i := 68) rfl⟩
theorem lw_p1 : lw_okq (⟨"ArgumentLabeller", "search", "()V"⟩, 16) := ⟨⟨by decide +kernel, by decide +kernel⟩, List.mem_of_getElem? (i := 4) rfl, List.mem_of_getElem? (i := 87) rfl, List.mem_of_getElem? (i := 88) rfl⟩
theorem lw_p2 : lw_okq (⟨"ArgumentLabeller", "propagate", "()Z"⟩, 16) := ⟨⟨by decide +kernel, by decide +kernel⟩, List.mem_of_getElem? (i := 4) rfl, List.mem_of_getElem? (i := 91) rfl, List.mem_of_getElem? (i := 92) rfl⟩
theorem lw_p3 : lw_okq (⟨"ArgumentLabeller", "conclude", "(I)Z"⟩, 16) := ⟨⟨by decide +kernel, by decide +kernel⟩, List.mem_of_getElem? (i := 4) rfl, List.mem_of_getElem? (i := 95) rfl, List.mem_of_getElem? (i := 96) rfl⟩
theorem lw_p4 : lw_okq (⟨"ArgumentLabeller", "label", "(II)V"⟩, 16) := ⟨⟨by decide +kernel, by decide +kernel⟩, List.mem_of_getElem? (i := 4) rfl, List.mem_of_getElem? (i := 99) rfl, List.mem_of_getElem? (i := 100) rfl⟩
theorem lw_p5 : lw_okq (⟨"ArgumentLabeller", "support", "(I)Z"⟩, 16) := ⟨⟨by decide +kernel, by decide +kernel⟩, List.mem_of_getElem? (i := 4) rfl, List.mem_of_getElem? (i := 103) rfl, List.mem_of_getElem? (i := 104) rfl⟩
theorem lw_p6 : lw_okq (⟨"ArgumentLabeller", "branch", "(I)I"⟩, 16) := ⟨⟨by decide +kernel, by decide +kernel⟩, List.mem_of_getElem? (i := 4) rfl, List.mem_of_getElem? (i := 107) rfl, List.mem_of_getElem? (i := 108) rfl⟩
theorem lw_p7 : lw_okq (⟨"ArgumentLabeller", "compare", "()V"⟩, 16) := ⟨⟨by decide +kernel, by decide +kernel⟩, List.mem_of_getElem? (i := 4) rfl, List.mem_of_getElem? (i := 111) rfl, List.mem_of_getElem? (i := 112) rfl⟩
theorem lw_p8 : lw_okq (⟨"ArgumentLabellerModel", "isArgument", "(I)Z"⟩, 3) := ⟨⟨by decide +kernel, by decide +kernel⟩, List.mem_of_getElem? (i := 134) rfl, List.mem_of_getElem? (i := 155) rfl, List.mem_of_getElem? (i := 156) rfl⟩
theorem lw_p9 : lw_okq (⟨"ArgumentLabellerModel", "defended", "(I)I"⟩, 3) := ⟨⟨by decide +kernel, by decide +kernel⟩, List.mem_of_getElem? (i := 134) rfl, List.mem_of_getElem? (i := 171) rfl, List.mem_of_getElem? (i := 172) rfl⟩
theorem lw_p10 : lw_okq (⟨"ArgumentLabellerModel", "attacked", "(I)I"⟩, 3) := ⟨⟨by decide +kernel, by decide +kernel⟩, List.mem_of_getElem? (i := 134) rfl, List.mem_of_getElem? (i := 175) rfl, List.mem_of_getElem? (i := 176) rfl⟩
theorem lw_p11 : lw_okq (⟨"ArgumentLabellerModel", "in", "(II)Z"⟩, 3) := ⟨⟨by decide +kernel, by decide +kernel⟩, List.mem_of_getElem? (i := 134) rfl, List.mem_of_getElem? (i := 179) rfl, List.mem_of_getElem? (i := 180) rfl⟩
theorem lw_p12 : lw_okq (⟨"ArgumentLabellerModel", "isKind", "(I)Z"⟩, 3) := ⟨⟨by decide +kernel, by decide +kernel⟩, List.mem_of_getElem? (i := 134) rfl, List.mem_of_getElem? (i := 187) rfl, List.mem_of_getElem? (i := 188) rfl⟩
theorem lw_p13 : lw_okq (⟨"ArgumentLabellerModel", "is", "(II)Z"⟩, 3) := ⟨⟨by decide +kernel, by decide +kernel⟩, List.mem_of_getElem? (i := 134) rfl, List.mem_of_getElem? (i := 191) rfl, List.mem_of_getElem? (i := 192) rfl⟩
theorem lw_p14 : lw_okq (⟨"ArgumentLabellerModel", "conflictFree", "(I)Z"⟩, 3) := ⟨⟨by decide +kernel, by decide +kernel⟩, List.mem_of_getElem? (i := 134) rfl, List.mem_of_getElem? (i := 195) rfl, List.mem_of_getElem? (i := 196) rfl⟩
theorem lw_p15 : lw_okq (⟨"ArgumentLabellerModel", "admissible", "(I)Z"⟩, 3) := ⟨⟨by decide +kernel, by decide +kernel⟩, List.mem_of_getElem? (i := 134) rfl, List.mem_of_getElem? (i := 199) rfl, List.mem_of_getElem? (i := 200) rfl⟩
def lw_privs_1 : List (MethodName × Nat) := [(⟨"ArgumentLabeller", "isArgument", "(I)Z"⟩, 16), (⟨"ArgumentLabeller", "search", "()V"⟩, 16), (⟨"ArgumentLabeller", "propagate", "()Z"⟩, 16), (⟨"ArgumentLabeller", "conclude", "(I)Z"⟩, 16), (⟨"ArgumentLabeller", "label", "(II)V"⟩, 16), (⟨"ArgumentLabeller", "support", "(I)Z"⟩, 16), (⟨"ArgumentLabeller", "branch", "(I)I"⟩, 16), (⟨"ArgumentLabeller", "compare", "()V"⟩, 16), (⟨"ArgumentLabellerModel", "isArgument", "(I)Z"⟩, 3), (⟨"ArgumentLabellerModel", "defended", "(I)I"⟩, 3), (⟨"ArgumentLabellerModel", "attacked", "(I)I"⟩, 3), (⟨"ArgumentLabellerModel", "in", "(II)Z"⟩, 3), (⟨"ArgumentLabellerModel", "isKind", "(I)Z"⟩, 3), (⟨"ArgumentLabellerModel", "is", "(II)Z"⟩, 3), (⟨"ArgumentLabellerModel", "conflictFree", "(I)Z"⟩, 3), (⟨"ArgumentLabellerModel", "admissible", "(I)Z"⟩, 3)]
theorem lw_r1 : ∀ q ∈ lw_privs_1, lw_okq q := List.forall_mem_cons.mpr ⟨lw_p0, List.forall_mem_cons.mpr ⟨lw_p1, List.forall_mem_cons.mpr ⟨lw_p2, List.forall_mem_cons.mpr ⟨lw_p3, List.forall_mem_cons.mpr ⟨lw_p4, List.forall_mem_cons.mpr ⟨lw_p5, List.forall_mem_cons.mpr ⟨lw_p6, List.forall_mem_cons.mpr ⟨lw_p7, List.forall_mem_cons.mpr ⟨lw_p8, List.forall_mem_cons.mpr ⟨lw_p9, List.forall_mem_cons.mpr ⟨lw_p10, List.forall_mem_cons.mpr ⟨lw_p11, List.forall_mem_cons.mpr ⟨lw_p12, List.forall_mem_cons.mpr ⟨lw_p13, List.forall_mem_cons.mpr ⟨lw_p14, List.forall_mem_cons.mpr ⟨lw_p15, fun _ h => absurd h List.not_mem_nil⟩⟩⟩⟩⟩⟩⟩⟩⟩⟩⟩⟩⟩⟩⟩⟩
theorem lw_p16 : lw_okq (⟨"ArgumentLabellerModel", "maximal", "(I)Z"⟩, 3) := ⟨⟨by decide +kernel, by decide +kernel⟩, List.mem_of_getElem? (i := 134) rfl, List.mem_of_getElem? (i := 203) rfl, List.mem_of_getElem? (i := 204) rfl⟩
theorem lw_p17 : lw_okq (⟨"ArgumentLabellerModel", "widest", "(I)Z"⟩, 3) := ⟨⟨by decide +kernel, by decide +kernel⟩, List.mem_of_getElem? (i := 134) rfl, List.mem_of_getElem? (i := 207) rfl, List.mem_of_getElem? (i := 208) rfl⟩
def lw_privs_2 : List (MethodName × Nat) := [(⟨"ArgumentLabellerModel", "maximal", "(I)Z"⟩, 3), (⟨"ArgumentLabellerModel", "widest", "(I)Z"⟩, 3)]
theorem lw_r2 : ∀ q ∈ lw_privs_2, lw_okq q := List.forall_mem_cons.mpr ⟨lw_p16, List.forall_mem_cons.mpr ⟨lw_p17, fun _ h => absurd h List.not_mem_nil⟩⟩
def lw_privs : List (MethodName × Nat) := lw_privs_1 ++ (lw_privs_2)
def lw_tbl : List Cond := k2_sels lw_privs ++ tables_1
theorem lw_privs_ok : ∀ q ∈ lw_privs, lw_okq q := by
  show ∀ q ∈ lw_privs_1 ++ (lw_privs_2), lw_okq q
  exact List.forall_mem_append.mpr ⟨lw_r1, lw_r2⟩
-- ===== ONE list of words for every method: the tables' words that hold all through a run =====
def lw_all : List Cond := lw_tbl.filter goodWord
/-- a word of the tables by its place: claim/WORDS.tsv -/
theorem lw_w {w : Cond} (i : Nat) (h : lw_tbl[i]? = some w) (g : goodWord w = true) : w ∈ lw_all := List.mem_filter.mpr ⟨List.mem_of_getElem? h, g⟩
theorem lw_all_tbl {w : Cond} (h : w ∈ lw_all) : w ∈ lw_tbl := (List.mem_filter.mp h).1
theorem lw_self : GoodIn lw_all lw_all := fun w h => ⟨h, good_of_word (List.mem_filter.mp h).2⟩
/-- a class's field words, by their places -/
theorem lw_in (ws : List Cond) (ps : List Nat) (hp : ws = ps.filterMap (fun i => lw_tbl[i]?)) (hg : ws.all goodWord = true) : ∀ w ∈ ws, w ∈ lw_all := by
  intro w h
  have h1 := List.all_eq_true.mp hg w h
  rw [hp] at h
  obtain ⟨i, -, hi⟩ := List.mem_filterMap.mp h
  exact lw_w i hi h1
/-- the words of a contract for the method y with code b, L locals, answer r -/
abbrev ws_ (y : MethodName) (b : ByteArray) (L : Nat) (r : Option FieldType) : List Cond := Cond.code y b L r :: lw_all
theorem lw_meth {y : MethodName} {b : ByteArray} {L : Nat} {r : Option FieldType} (h : Cond.code y b L r ∈ lw_all) : GoodIn lw_all (ws_ y b L r) := by
  intro w hw
  rcases List.mem_cons.mp hw with e | e
  · rw [e]
    exact lw_self _ h
  · exact lw_self _ e
theorem lw_app {a c : List Cond} (ha : ∀ w ∈ a, w ∈ lw_all) (hc : GoodIn lw_all c) : GoodIn lw_all (a ++ c) := by
  intro w hw
  rcases List.mem_append.mp hw with e | e
  · exact lw_self w (ha w e)
  · exact hc w e
/-- what a call through an object asks: cwV n hts (lw_V ..) -/
theorem lw_V {own : String} {idx : Nat} {C : String} {y : MethodName} {b : ByteArray} {L : Nat} {r : Option FieldType} (h1 : Cond.methodLink own idx y ∈ lw_all) (h2 : Cond.instanceMethod y ∈ lw_all) (h3 : Cond.selects C y y ∈ lw_all) (h4 : Cond.initialized C ∈ lw_all) (h5 : Cond.code y b L r ∈ lw_all) : GoodIn lw_all (wsV own idx C y (ws_ y b L r)) := by
  refine lw_app ?_ (lw_meth h5)
  intro w hw
  simp only [List.mem_cons, List.not_mem_nil, or_false] at hw
  rcases hw with e | e | e | e
  · rw [e]; exact h1
  · rw [e]; exact h2
  · rw [e]; exact h3
  · rw [e]; exact h4
/-- what a static call asks: va_cwS n hts (lw_S ..) -/
theorem lw_S {own : String} {idx : Nat} {y : MethodName} {b : ByteArray} {L : Nat} {r : Option FieldType} (h1 : Cond.methodLink own idx y ∈ lw_all) (h2 : Cond.static y ∈ lw_all) (h3 : Cond.initialized y.cls ∈ lw_all) (h4 : Cond.code y b L r ∈ lw_all) : GoodIn lw_all (va_wsS own idx y (ws_ y b L r)) := by
  refine lw_app ?_ (lw_meth h4)
  intro w hw
  simp only [List.mem_cons, List.not_mem_nil, or_false] at hw
  rcases hw with e | e | e
  · rw [e]; exact h1
  · rw [e]; exact h2
  · rw [e]; exact h3
/-- the words of a contract for a method WITH HANDLERS (hh: its table) -/
abbrev wsW_ (y : MethodName) (b : ByteArray) (L : Nat) (r : Option FieldType) (hh : List (Nat × Nat × Nat × Nat)) : List Cond := Cond.codeWith y b L r hh :: lw_all
theorem lw_methW {y : MethodName} {b : ByteArray} {L : Nat} {r : Option FieldType} {hh : List (Nat × Nat × Nat × Nat)} (h : Cond.codeWith y b L r hh ∈ lw_all) : GoodIn lw_all (wsW_ y b L r hh) := by
  intro w hw
  rcases List.mem_cons.mp hw with e | e
  · rw [e]
    exact lw_self _ h
  · exact lw_self _ e
/-- any list of words by their places (lw_in), good -/
theorem lw_good {ws : List Cond} (h : ∀ w ∈ ws, w ∈ lw_all) : GoodIn lw_all ws := fun w hw => lw_self w (h w hw)
/-- what a call of a method with handlers asks: vx_cwVW n hts (lw_VW ..), vx_cwSW n hts (lw_SW ..) -/
theorem lw_VW {own : String} {idx : Nat} {C : String} {y : MethodName} {b : ByteArray} {L : Nat} {r : Option FieldType} {hh : List (Nat × Nat × Nat × Nat)} (h1 : Cond.methodLink own idx y ∈ lw_all) (h2 : Cond.instanceMethod y ∈ lw_all) (h3 : Cond.selects C y y ∈ lw_all) (h4 : Cond.initialized C ∈ lw_all) (h5 : Cond.codeWith y b L r hh ∈ lw_all) : GoodIn lw_all (wsV own idx C y (wsW_ y b L r hh)) := by
  refine lw_app ?_ (lw_methW h5)
  intro w hw
  simp only [List.mem_cons, List.not_mem_nil, or_false] at hw
  rcases hw with e | e | e | e
  · rw [e]; exact h1
  · rw [e]; exact h2
  · rw [e]; exact h3
  · rw [e]; exact h4
theorem lw_SW {own : String} {idx : Nat} {y : MethodName} {b : ByteArray} {L : Nat} {r : Option FieldType} {hh : List (Nat × Nat × Nat × Nat)} (h1 : Cond.methodLink own idx y ∈ lw_all) (h2 : Cond.static y ∈ lw_all) (h3 : Cond.initialized y.cls ∈ lw_all) (h4 : Cond.codeWith y b L r hh ∈ lw_all) : GoodIn lw_all (va_wsS own idx y (wsW_ y b L r hh)) := by
  refine lw_app ?_ (lw_methW h4)
  intro w hw
  simp only [List.mem_cons, List.not_mem_nil, or_false] at hw
  rcases hw with e | e | e
  · rw [e]; exact h1
  · rw [e]; exact h2
  · rw [e]; exact h3
/-- a word by its place in its run of the tables -/
theorem lw_at {r : List Cond} (hr : ∀ w ∈ r, w ∈ lw_tbl) {w : Cond} (i : Nat) (h : r[i]? = some w) : w ∈ lw_tbl := hr w (List.mem_of_getElem? h)
theorem lw_g {w : Cond} (h : w ∈ lw_tbl) (g : goodWord w = true) : w ∈ lw_all := List.mem_filter.mpr ⟨h, g⟩
theorem lw_ms : ∀ w ∈ k2_sels lw_privs, w ∈ lw_tbl := fun w h => show w ∈ k2_sels lw_privs ++ tables_1 from List.mem_append_left _ h
theorem lw_m0 : ∀ w ∈ tables_1, w ∈ lw_tbl := fun w h => show w ∈ k2_sels lw_privs ++ tables_1 from List.mem_append_right (k2_sels lw_privs) h
theorem qs0 : (Cond.selects "ArgumentLabeller" ⟨"ArgumentLabeller", "isArgument", "(I)Z"⟩ ⟨"ArgumentLabeller", "isArgument", "(I)Z"⟩) ∈ lw_all := lw_g (lw_at lw_ms 0 rfl) rfl
theorem qs1 : (Cond.selects "ArgumentLabeller" ⟨"ArgumentLabeller", "search", "()V"⟩ ⟨"ArgumentLabeller", "search", "()V"⟩) ∈ lw_all := lw_g (lw_at lw_ms 1 rfl) rfl
theorem qs2 : (Cond.selects "ArgumentLabeller" ⟨"ArgumentLabeller", "propagate", "()Z"⟩ ⟨"ArgumentLabeller", "propagate", "()Z"⟩) ∈ lw_all := lw_g (lw_at lw_ms 2 rfl) rfl
theorem qs3 : (Cond.selects "ArgumentLabeller" ⟨"ArgumentLabeller", "conclude", "(I)Z"⟩ ⟨"ArgumentLabeller", "conclude", "(I)Z"⟩) ∈ lw_all := lw_g (lw_at lw_ms 3 rfl) rfl
theorem qs4 : (Cond.selects "ArgumentLabeller" ⟨"ArgumentLabeller", "label", "(II)V"⟩ ⟨"ArgumentLabeller", "label", "(II)V"⟩) ∈ lw_all := lw_g (lw_at lw_ms 4 rfl) rfl
theorem qs5 : (Cond.selects "ArgumentLabeller" ⟨"ArgumentLabeller", "support", "(I)Z"⟩ ⟨"ArgumentLabeller", "support", "(I)Z"⟩) ∈ lw_all := lw_g (lw_at lw_ms 5 rfl) rfl
theorem qs6 : (Cond.selects "ArgumentLabeller" ⟨"ArgumentLabeller", "branch", "(I)I"⟩ ⟨"ArgumentLabeller", "branch", "(I)I"⟩) ∈ lw_all := lw_g (lw_at lw_ms 6 rfl) rfl
theorem qs7 : (Cond.selects "ArgumentLabeller" ⟨"ArgumentLabeller", "compare", "()V"⟩ ⟨"ArgumentLabeller", "compare", "()V"⟩) ∈ lw_all := lw_g (lw_at lw_ms 7 rfl) rfl
theorem qs8 : (Cond.selects "ArgumentLabellerModel" ⟨"ArgumentLabellerModel", "isArgument", "(I)Z"⟩ ⟨"ArgumentLabellerModel", "isArgument", "(I)Z"⟩) ∈ lw_all := lw_g (lw_at lw_ms 8 rfl) rfl
theorem qs9 : (Cond.selects "ArgumentLabellerModel" ⟨"ArgumentLabellerModel", "defended", "(I)I"⟩ ⟨"ArgumentLabellerModel", "defended", "(I)I"⟩) ∈ lw_all := lw_g (lw_at lw_ms 9 rfl) rfl
theorem qs10 : (Cond.selects "ArgumentLabellerModel" ⟨"ArgumentLabellerModel", "attacked", "(I)I"⟩ ⟨"ArgumentLabellerModel", "attacked", "(I)I"⟩) ∈ lw_all := lw_g (lw_at lw_ms 10 rfl) rfl
theorem qs11 : (Cond.selects "ArgumentLabellerModel" ⟨"ArgumentLabellerModel", "in", "(II)Z"⟩ ⟨"ArgumentLabellerModel", "in", "(II)Z"⟩) ∈ lw_all := lw_g (lw_at lw_ms 11 rfl) rfl
theorem qs12 : (Cond.selects "ArgumentLabellerModel" ⟨"ArgumentLabellerModel", "isKind", "(I)Z"⟩ ⟨"ArgumentLabellerModel", "isKind", "(I)Z"⟩) ∈ lw_all := lw_g (lw_at lw_ms 12 rfl) rfl
theorem qs13 : (Cond.selects "ArgumentLabellerModel" ⟨"ArgumentLabellerModel", "is", "(II)Z"⟩ ⟨"ArgumentLabellerModel", "is", "(II)Z"⟩) ∈ lw_all := lw_g (lw_at lw_ms 13 rfl) rfl
theorem qs14 : (Cond.selects "ArgumentLabellerModel" ⟨"ArgumentLabellerModel", "conflictFree", "(I)Z"⟩ ⟨"ArgumentLabellerModel", "conflictFree", "(I)Z"⟩) ∈ lw_all := lw_g (lw_at lw_ms 14 rfl) rfl
theorem qs15 : (Cond.selects "ArgumentLabellerModel" ⟨"ArgumentLabellerModel", "admissible", "(I)Z"⟩ ⟨"ArgumentLabellerModel", "admissible", "(I)Z"⟩) ∈ lw_all := lw_g (lw_at lw_ms 15 rfl) rfl
theorem qs16 : (Cond.selects "ArgumentLabellerModel" ⟨"ArgumentLabellerModel", "maximal", "(I)Z"⟩ ⟨"ArgumentLabellerModel", "maximal", "(I)Z"⟩) ∈ lw_all := lw_g (lw_at lw_ms 16 rfl) rfl
theorem qs17 : (Cond.selects "ArgumentLabellerModel" ⟨"ArgumentLabellerModel", "widest", "(I)Z"⟩ ⟨"ArgumentLabellerModel", "widest", "(I)Z"⟩) ∈ lw_all := lw_g (lw_at lw_ms 17 rfl) rfl
end
section
set_option maxRecDepth 100000
/-! ArgumentLabeller -/
def RX1 : String := "ArgumentLabeller"
def TX1 : u_T := fun k => match k with
  | 0 => ("ArgumentLabeller", "argumentCount", "I", false)
  | 1 => ("ArgumentLabeller", "everything", "I", false)
  | 2 => ("ArgumentLabeller", "attackers", "[I", true)
  | 3 => ("ArgumentLabeller", "targets", "[I", true)
  | 4 => ("ArgumentLabeller", "accepted", "I", false)
  | 5 => ("ArgumentLabeller", "rejected", "I", false)
  | 6 => ("ArgumentLabeller", "undecided", "I", false)
  | 7 => ("ArgumentLabeller", "changed", "Z", false)
  | 8 => ("ArgumentLabeller", "frameAccepted", "[I", true)
  | 9 => ("ArgumentLabeller", "frameRejected", "[I", true)
  | 10 => ("ArgumentLabeller", "frameUndecided", "[I", true)
  | 11 => ("ArgumentLabeller", "frameArgument", "[B", true)
  | 12 => ("ArgumentLabeller", "frameTried", "[B", true)
  | 13 => ("ArgumentLabeller", "searched", "Z", false)
  | 14 => ("ArgumentLabeller", "kinds", "[B", true)
  | _ => ("ArgumentLabeller", "range", "[I", true)
def tyX1 : Nat → FieldType := fun k => match k with
  | 0 => .int
  | 1 => .int
  | 2 => .array .int
  | 3 => .array .int
  | 4 => .int
  | 5 => .int
  | 6 => .int
  | 7 => .boolean
  | 8 => .array .int
  | 9 => .array .int
  | 10 => .array .int
  | 11 => .array .byte
  | 12 => .array .byte
  | 13 => .boolean
  | 14 => .array .byte
  | _ => .array .int
abbrev wsX10 : List Cond := u_ws RX1 TX1 16
set_option maxRecDepth 100000 in
theorem nmX1 : ∀ a, a < 16 → ∀ b, b < 16 → a ≠ b → (TX1 a).2.1 ≠ (TX1 b).2.1 := by decide +kernel
set_option maxRecDepth 100000 in
theorem tyX1_ok : ∀ k, k < 16 → parseFieldDescriptor (TX1 k).2.2.1 = some (tyX1 k) := by decide +kernel
abbrev cX1_init : ByteArray := prog_1_method_1_code
def yX1_init : MethodName := ⟨RX1, "<init>", "(I)V"⟩
theorem dX1_init_0 : decode cX1_init 0 = .ok (.aload_n 0, 1) := by decide +kernel
theorem dX1_init_1 : decode cX1_init 1 = .ok (.invokespecial 1, 3) := by decide +kernel
theorem dX1_init_4 : decode cX1_init 4 = .ok (.aload_n 0, 1) := by decide +kernel
theorem dX1_init_5 : decode cX1_init 5 = .ok (.bipush 8, 2) := by decide +kernel
theorem dX1_init_7 : decode cX1_init 7 = .ok (.newarray .int, 2) := by decide +kernel
theorem dX1_init_9 : decode cX1_init 9 = .ok (.putfield 7, 3) := by decide +kernel
theorem dX1_init_12 : decode cX1_init 12 = .ok (.aload_n 0, 1) := by decide +kernel
theorem dX1_init_13 : decode cX1_init 13 = .ok (.bipush 8, 2) := by decide +kernel
theorem dX1_init_15 : decode cX1_init 15 = .ok (.newarray .int, 2) := by decide +kernel
theorem dX1_init_17 : decode cX1_init 17 = .ok (.putfield 13, 3) := by decide +kernel
theorem dX1_init_20 : decode cX1_init 20 = .ok (.aload_n 0, 1) := by decide +kernel
theorem dX1_init_21 : decode cX1_init 21 = .ok (.bipush 9, 2) := by decide +kernel
theorem dX1_init_23 : decode cX1_init 23 = .ok (.newarray .int, 2) := by decide +kernel
theorem dX1_init_25 : decode cX1_init 25 = .ok (.putfield 16, 3) := by decide +kernel
theorem dX1_init_28 : decode cX1_init 28 = .ok (.aload_n 0, 1) := by decide +kernel
theorem dX1_init_29 : decode cX1_init 29 = .ok (.bipush 9, 2) := by decide +kernel
theorem dX1_init_31 : decode cX1_init 31 = .ok (.newarray .int, 2) := by decide +kernel
theorem dX1_init_33 : decode cX1_init 33 = .ok (.putfield 19, 3) := by decide +kernel
theorem dX1_init_36 : decode cX1_init 36 = .ok (.aload_n 0, 1) := by decide +kernel
theorem dX1_init_37 : decode cX1_init 37 = .ok (.bipush 9, 2) := by decide +kernel
theorem dX1_init_39 : decode cX1_init 39 = .ok (.newarray .int, 2) := by decide +kernel
theorem dX1_init_41 : decode cX1_init 41 = .ok (.putfield 22, 3) := by decide +kernel
theorem dX1_init_44 : decode cX1_init 44 = .ok (.aload_n 0, 1) := by decide +kernel
theorem dX1_init_45 : decode cX1_init 45 = .ok (.bipush 9, 2) := by decide +kernel
theorem dX1_init_47 : decode cX1_init 47 = .ok (.newarray .byte, 2) := by decide +kernel
theorem dX1_init_49 : decode cX1_init 49 = .ok (.putfield 25, 3) := by decide +kernel
theorem dX1_init_52 : decode cX1_init 52 = .ok (.aload_n 0, 1) := by decide +kernel
theorem dX1_init_53 : decode cX1_init 53 = .ok (.bipush 9, 2) := by decide +kernel
theorem dX1_init_55 : decode cX1_init 55 = .ok (.newarray .byte, 2) := by decide +kernel
theorem dX1_init_57 : decode cX1_init 57 = .ok (.putfield 29, 3) := by decide +kernel
theorem dX1_init_60 : decode cX1_init 60 = .ok (.aload_n 0, 1) := by decide +kernel
theorem dX1_init_61 : decode cX1_init 61 = .ok (.sipush 256, 3) := by decide +kernel
theorem dX1_init_64 : decode cX1_init 64 = .ok (.newarray .byte, 2) := by decide +kernel
theorem dX1_init_66 : decode cX1_init 66 = .ok (.putfield 32, 3) := by decide +kernel
theorem dX1_init_69 : decode cX1_init 69 = .ok (.aload_n 0, 1) := by decide +kernel
theorem dX1_init_70 : decode cX1_init 70 = .ok (.sipush 256, 3) := by decide +kernel
theorem dX1_init_73 : decode cX1_init 73 = .ok (.newarray .int, 2) := by decide +kernel
theorem dX1_init_75 : decode cX1_init 75 = .ok (.putfield 35, 3) := by decide +kernel
theorem dX1_init_78 : decode cX1_init 78 = .ok (.aload_n 0, 1) := by decide +kernel
theorem dX1_init_79 : decode cX1_init 79 = .ok (.iload_n 1, 1) := by decide +kernel
theorem dX1_init_80 : decode cX1_init 80 = .ok (.iconst 2, 1) := by decide +kernel
theorem dX1_init_81 : decode cX1_init 81 = .ok (.if_icmp .ge 7, 3) := by decide +kernel
theorem dX1_init_84 : decode cX1_init 84 = .ok (.iconst 2, 1) := by decide +kernel
theorem dX1_init_85 : decode cX1_init 85 = .ok (.goto 15, 3) := by decide +kernel
theorem dX1_init_88 : decode cX1_init 88 = .ok (.iload_n 1, 1) := by decide +kernel
theorem dX1_init_89 : decode cX1_init 89 = .ok (.bipush 8, 2) := by decide +kernel
theorem dX1_init_91 : decode cX1_init 91 = .ok (.if_icmp .le 8, 3) := by decide +kernel
theorem dX1_init_94 : decode cX1_init 94 = .ok (.bipush 8, 2) := by decide +kernel
theorem dX1_init_96 : decode cX1_init 96 = .ok (.goto 4, 3) := by decide +kernel
theorem dX1_init_99 : decode cX1_init 99 = .ok (.iload_n 1, 1) := by decide +kernel
theorem dX1_init_100 : decode cX1_init 100 = .ok (.putfield 38, 3) := by decide +kernel
theorem dX1_init_103 : decode cX1_init 103 = .ok (.aload_n 0, 1) := by decide +kernel
theorem dX1_init_104 : decode cX1_init 104 = .ok (.iconst 1, 1) := by decide +kernel
theorem dX1_init_105 : decode cX1_init 105 = .ok (.aload_n 0, 1) := by decide +kernel
theorem dX1_init_106 : decode cX1_init 106 = .ok (.getfield 38, 3) := by decide +kernel
theorem dX1_init_109 : decode cX1_init 109 = .ok (.ishl, 1) := by decide +kernel
theorem dX1_init_110 : decode cX1_init 110 = .ok (.iconst 1, 1) := by decide +kernel
theorem dX1_init_111 : decode cX1_init 111 = .ok (.isub, 1) := by decide +kernel
theorem dX1_init_112 : decode cX1_init 112 = .ok (.putfield 42, 3) := by decide +kernel
theorem dX1_init_115 : decode cX1_init 115 = .ok (.return_, 1) := by decide +kernel
abbrev cX1_attack : ByteArray := prog_1_method_2_code
def yX1_attack : MethodName := ⟨RX1, "attack", "(II)I"⟩
theorem dX1_attack_0 : decode cX1_attack 0 = .ok (.aload_n 0, 1) := by decide +kernel
theorem dX1_attack_1 : decode cX1_attack 1 = .ok (.iload_n 1, 1) := by decide +kernel
theorem dX1_attack_2 : decode cX1_attack 2 = .ok (.invokevirtual 45, 3) := by decide +kernel
theorem dX1_attack_5 : decode cX1_attack 5 = .ok (.ifCond .eq 11, 3) := by decide +kernel
theorem dX1_attack_8 : decode cX1_attack 8 = .ok (.aload_n 0, 1) := by decide +kernel
theorem dX1_attack_9 : decode cX1_attack 9 = .ok (.iload_n 2, 1) := by decide +kernel
theorem dX1_attack_10 : decode cX1_attack 10 = .ok (.invokevirtual 45, 3) := by decide +kernel
theorem dX1_attack_13 : decode cX1_attack 13 = .ok (.ifCond .ne 5, 3) := by decide +kernel
theorem dX1_attack_16 : decode cX1_attack 16 = .ok (.iconst (-1), 1) := by decide +kernel
theorem dX1_attack_17 : decode cX1_attack 17 = .ok (.ireturn, 1) := by decide +kernel
theorem dX1_attack_18 : decode cX1_attack 18 = .ok (.aload_n 0, 1) := by decide +kernel
theorem dX1_attack_19 : decode cX1_attack 19 = .ok (.getfield 13, 3) := by decide +kernel
theorem dX1_attack_22 : decode cX1_attack 22 = .ok (.iload_n 1, 1) := by decide +kernel
theorem dX1_attack_23 : decode cX1_attack 23 = .ok (.iaload, 1) := by decide +kernel
theorem dX1_attack_24 : decode cX1_attack 24 = .ok (.iload_n 2, 1) := by decide +kernel
theorem dX1_attack_25 : decode cX1_attack 25 = .ok (.ishr, 1) := by decide +kernel
theorem dX1_attack_26 : decode cX1_attack 26 = .ok (.iconst 1, 1) := by decide +kernel
theorem dX1_attack_27 : decode cX1_attack 27 = .ok (.iand, 1) := by decide +kernel
theorem dX1_attack_28 : decode cX1_attack 28 = .ok (.ifCond .eq 5, 3) := by decide +kernel
theorem dX1_attack_31 : decode cX1_attack 31 = .ok (.iconst 0, 1) := by decide +kernel
theorem dX1_attack_32 : decode cX1_attack 32 = .ok (.ireturn, 1) := by decide +kernel
theorem dX1_attack_33 : decode cX1_attack 33 = .ok (.aload_n 0, 1) := by decide +kernel
theorem dX1_attack_34 : decode cX1_attack 34 = .ok (.getfield 13, 3) := by decide +kernel
theorem dX1_attack_37 : decode cX1_attack 37 = .ok (.iload_n 1, 1) := by decide +kernel
theorem dX1_attack_38 : decode cX1_attack 38 = .ok (.dup2, 1) := by decide +kernel
theorem dX1_attack_39 : decode cX1_attack 39 = .ok (.iaload, 1) := by decide +kernel
theorem dX1_attack_40 : decode cX1_attack 40 = .ok (.iconst 1, 1) := by decide +kernel
theorem dX1_attack_41 : decode cX1_attack 41 = .ok (.iload_n 2, 1) := by decide +kernel
theorem dX1_attack_42 : decode cX1_attack 42 = .ok (.ishl, 1) := by decide +kernel
theorem dX1_attack_43 : decode cX1_attack 43 = .ok (.ior, 1) := by decide +kernel
theorem dX1_attack_44 : decode cX1_attack 44 = .ok (.iastore, 1) := by decide +kernel
theorem dX1_attack_45 : decode cX1_attack 45 = .ok (.aload_n 0, 1) := by decide +kernel
theorem dX1_attack_46 : decode cX1_attack 46 = .ok (.getfield 7, 3) := by decide +kernel
theorem dX1_attack_49 : decode cX1_attack 49 = .ok (.iload_n 2, 1) := by decide +kernel
theorem dX1_attack_50 : decode cX1_attack 50 = .ok (.dup2, 1) := by decide +kernel
theorem dX1_attack_51 : decode cX1_attack 51 = .ok (.iaload, 1) := by decide +kernel
theorem dX1_attack_52 : decode cX1_attack 52 = .ok (.iconst 1, 1) := by decide +kernel
theorem dX1_attack_53 : decode cX1_attack 53 = .ok (.iload_n 1, 1) := by decide +kernel
theorem dX1_attack_54 : decode cX1_attack 54 = .ok (.ishl, 1) := by decide +kernel
theorem dX1_attack_55 : decode cX1_attack 55 = .ok (.ior, 1) := by decide +kernel
theorem dX1_attack_56 : decode cX1_attack 56 = .ok (.iastore, 1) := by decide +kernel
theorem dX1_attack_57 : decode cX1_attack 57 = .ok (.aload_n 0, 1) := by decide +kernel
theorem dX1_attack_58 : decode cX1_attack 58 = .ok (.iconst 0, 1) := by decide +kernel
theorem dX1_attack_59 : decode cX1_attack 59 = .ok (.putfield 49, 3) := by decide +kernel
theorem dX1_attack_62 : decode cX1_attack 62 = .ok (.iconst 1, 1) := by decide +kernel
theorem dX1_attack_63 : decode cX1_attack 63 = .ok (.ireturn, 1) := by decide +kernel
abbrev cX1_isArgument : ByteArray := prog_1_method_11_code
def yX1_isArgument : MethodName := ⟨RX1, "isArgument", "(I)Z"⟩
theorem dX1_isArgument_0 : decode cX1_isArgument 0 = .ok (.iload_n 1, 1) := by decide +kernel
theorem dX1_isArgument_1 : decode cX1_isArgument 1 = .ok (.ifCond .lt 15, 3) := by decide +kernel
theorem dX1_isArgument_4 : decode cX1_isArgument 4 = .ok (.iload_n 1, 1) := by decide +kernel
theorem dX1_isArgument_5 : decode cX1_isArgument 5 = .ok (.aload_n 0, 1) := by decide +kernel
theorem dX1_isArgument_6 : decode cX1_isArgument 6 = .ok (.getfield 38, 3) := by decide +kernel
theorem dX1_isArgument_9 : decode cX1_isArgument 9 = .ok (.if_icmp .ge 7, 3) := by decide +kernel
theorem dX1_isArgument_12 : decode cX1_isArgument 12 = .ok (.iconst 1, 1) := by decide +kernel
theorem dX1_isArgument_13 : decode cX1_isArgument 13 = .ok (.goto 4, 3) := by decide +kernel
theorem dX1_isArgument_16 : decode cX1_isArgument 16 = .ok (.iconst 0, 1) := by decide +kernel
theorem dX1_isArgument_17 : decode cX1_isArgument 17 = .ok (.ireturn, 1) := by decide +kernel
abbrev cX1_withdraw : ByteArray := prog_1_method_3_code
def yX1_withdraw : MethodName := ⟨RX1, "withdraw", "(II)I"⟩
theorem dX1_withdraw_0 : decode cX1_withdraw 0 = .ok (.aload_n 0, 1) := by decide +kernel
theorem dX1_withdraw_1 : decode cX1_withdraw 1 = .ok (.iload_n 1, 1) := by decide +kernel
theorem dX1_withdraw_2 : decode cX1_withdraw 2 = .ok (.invokevirtual 45, 3) := by decide +kernel
theorem dX1_withdraw_5 : decode cX1_withdraw 5 = .ok (.ifCond .eq 11, 3) := by decide +kernel
theorem dX1_withdraw_8 : decode cX1_withdraw 8 = .ok (.aload_n 0, 1) := by decide +kernel
theorem dX1_withdraw_9 : decode cX1_withdraw 9 = .ok (.iload_n 2, 1) := by decide +kernel
theorem dX1_withdraw_10 : decode cX1_withdraw 10 = .ok (.invokevirtual 45, 3) := by decide +kernel
theorem dX1_withdraw_13 : decode cX1_withdraw 13 = .ok (.ifCond .ne 5, 3) := by decide +kernel
theorem dX1_withdraw_16 : decode cX1_withdraw 16 = .ok (.iconst (-1), 1) := by decide +kernel
theorem dX1_withdraw_17 : decode cX1_withdraw 17 = .ok (.ireturn, 1) := by decide +kernel
theorem dX1_withdraw_18 : decode cX1_withdraw 18 = .ok (.aload_n 0, 1) := by decide +kernel
theorem dX1_withdraw_19 : decode cX1_withdraw 19 = .ok (.getfield 13, 3) := by decide +kernel
theorem dX1_withdraw_22 : decode cX1_withdraw 22 = .ok (.iload_n 1, 1) := by decide +kernel
theorem dX1_withdraw_23 : decode cX1_withdraw 23 = .ok (.iaload, 1) := by decide +kernel
theorem dX1_withdraw_24 : decode cX1_withdraw 24 = .ok (.iload_n 2, 1) := by decide +kernel
theorem dX1_withdraw_25 : decode cX1_withdraw 25 = .ok (.ishr, 1) := by decide +kernel
theorem dX1_withdraw_26 : decode cX1_withdraw 26 = .ok (.iconst 1, 1) := by decide +kernel
theorem dX1_withdraw_27 : decode cX1_withdraw 27 = .ok (.iand, 1) := by decide +kernel
theorem dX1_withdraw_28 : decode cX1_withdraw 28 = .ok (.ifCond .ne 5, 3) := by decide +kernel
theorem dX1_withdraw_31 : decode cX1_withdraw 31 = .ok (.iconst 0, 1) := by decide +kernel
theorem dX1_withdraw_32 : decode cX1_withdraw 32 = .ok (.ireturn, 1) := by decide +kernel
theorem dX1_withdraw_33 : decode cX1_withdraw 33 = .ok (.aload_n 0, 1) := by decide +kernel
theorem dX1_withdraw_34 : decode cX1_withdraw 34 = .ok (.getfield 13, 3) := by decide +kernel
theorem dX1_withdraw_37 : decode cX1_withdraw 37 = .ok (.iload_n 1, 1) := by decide +kernel
theorem dX1_withdraw_38 : decode cX1_withdraw 38 = .ok (.dup2, 1) := by decide +kernel
theorem dX1_withdraw_39 : decode cX1_withdraw 39 = .ok (.iaload, 1) := by decide +kernel
theorem dX1_withdraw_40 : decode cX1_withdraw 40 = .ok (.iconst 1, 1) := by decide +kernel
theorem dX1_withdraw_41 : decode cX1_withdraw 41 = .ok (.iload_n 2, 1) := by decide +kernel
theorem dX1_withdraw_42 : decode cX1_withdraw 42 = .ok (.ishl, 1) := by decide +kernel
theorem dX1_withdraw_43 : decode cX1_withdraw 43 = .ok (.iconst (-1), 1) := by decide +kernel
theorem dX1_withdraw_44 : decode cX1_withdraw 44 = .ok (.ixor, 1) := by decide +kernel
theorem dX1_withdraw_45 : decode cX1_withdraw 45 = .ok (.iand, 1) := by decide +kernel
theorem dX1_withdraw_46 : decode cX1_withdraw 46 = .ok (.iastore, 1) := by decide +kernel
theorem dX1_withdraw_47 : decode cX1_withdraw 47 = .ok (.aload_n 0, 1) := by decide +kernel
theorem dX1_withdraw_48 : decode cX1_withdraw 48 = .ok (.getfield 7, 3) := by decide +kernel
theorem dX1_withdraw_51 : decode cX1_withdraw 51 = .ok (.iload_n 2, 1) := by decide +kernel
theorem dX1_withdraw_52 : decode cX1_withdraw 52 = .ok (.dup2, 1) := by decide +kernel
theorem dX1_withdraw_53 : decode cX1_withdraw 53 = .ok (.iaload, 1) := by decide +kernel
theorem dX1_withdraw_54 : decode cX1_withdraw 54 = .ok (.iconst 1, 1) := by decide +kernel
theorem dX1_withdraw_55 : decode cX1_withdraw 55 = .ok (.iload_n 1, 1) := by decide +kernel
theorem dX1_withdraw_56 : decode cX1_withdraw 56 = .ok (.ishl, 1) := by decide +kernel
theorem dX1_withdraw_57 : decode cX1_withdraw 57 = .ok (.iconst (-1), 1) := by decide +kernel
theorem dX1_withdraw_58 : decode cX1_withdraw 58 = .ok (.ixor, 1) := by decide +kernel
theorem dX1_withdraw_59 : decode cX1_withdraw 59 = .ok (.iand, 1) := by decide +kernel
theorem dX1_withdraw_60 : decode cX1_withdraw 60 = .ok (.iastore, 1) := by decide +kernel
theorem dX1_withdraw_61 : decode cX1_withdraw 61 = .ok (.aload_n 0, 1) := by decide +kernel
theorem dX1_withdraw_62 : decode cX1_withdraw 62 = .ok (.iconst 0, 1) := by decide +kernel
theorem dX1_withdraw_63 : decode cX1_withdraw 63 = .ok (.putfield 49, 3) := by decide +kernel
theorem dX1_withdraw_66 : decode cX1_withdraw 66 = .ok (.iconst 1, 1) := by decide +kernel
theorem dX1_withdraw_67 : decode cX1_withdraw 67 = .ok (.ireturn, 1) := by decide +kernel
abbrev cX1_attacks : ByteArray := prog_1_method_4_code
def yX1_attacks : MethodName := ⟨RX1, "attacks", "(II)Z"⟩
theorem dX1_attacks_0 : decode cX1_attacks 0 = .ok (.aload_n 0, 1) := by decide +kernel
theorem dX1_attacks_1 : decode cX1_attacks 1 = .ok (.iload_n 1, 1) := by decide +kernel
theorem dX1_attacks_2 : decode cX1_attacks 2 = .ok (.invokevirtual 45, 3) := by decide +kernel
theorem dX1_attacks_5 : decode cX1_attacks 5 = .ok (.ifCond .eq 11, 3) := by decide +kernel
theorem dX1_attacks_8 : decode cX1_attacks 8 = .ok (.aload_n 0, 1) := by decide +kernel
theorem dX1_attacks_9 : decode cX1_attacks 9 = .ok (.iload_n 2, 1) := by decide +kernel
theorem dX1_attacks_10 : decode cX1_attacks 10 = .ok (.invokevirtual 45, 3) := by decide +kernel
theorem dX1_attacks_13 : decode cX1_attacks 13 = .ok (.ifCond .ne 5, 3) := by decide +kernel
theorem dX1_attacks_16 : decode cX1_attacks 16 = .ok (.iconst 0, 1) := by decide +kernel
theorem dX1_attacks_17 : decode cX1_attacks 17 = .ok (.ireturn, 1) := by decide +kernel
theorem dX1_attacks_18 : decode cX1_attacks 18 = .ok (.aload_n 0, 1) := by decide +kernel
theorem dX1_attacks_19 : decode cX1_attacks 19 = .ok (.getfield 13, 3) := by decide +kernel
theorem dX1_attacks_22 : decode cX1_attacks 22 = .ok (.iload_n 1, 1) := by decide +kernel
theorem dX1_attacks_23 : decode cX1_attacks 23 = .ok (.iaload, 1) := by decide +kernel
theorem dX1_attacks_24 : decode cX1_attacks 24 = .ok (.iload_n 2, 1) := by decide +kernel
theorem dX1_attacks_25 : decode cX1_attacks 25 = .ok (.ishr, 1) := by decide +kernel
theorem dX1_attacks_26 : decode cX1_attacks 26 = .ok (.iconst 1, 1) := by decide +kernel
theorem dX1_attacks_27 : decode cX1_attacks 27 = .ok (.iand, 1) := by decide +kernel
theorem dX1_attacks_28 : decode cX1_attacks 28 = .ok (.ifCond .eq 7, 3) := by decide +kernel
theorem dX1_attacks_31 : decode cX1_attacks 31 = .ok (.iconst 1, 1) := by decide +kernel
theorem dX1_attacks_32 : decode cX1_attacks 32 = .ok (.goto 4, 3) := by decide +kernel
theorem dX1_attacks_35 : decode cX1_attacks 35 = .ok (.iconst 0, 1) := by decide +kernel
theorem dX1_attacks_36 : decode cX1_attacks 36 = .ok (.ireturn, 1) := by decide +kernel
abbrev cX1_grounded : ByteArray := prog_1_method_5_code
def yX1_grounded : MethodName := ⟨RX1, "grounded", "()I"⟩
theorem dX1_grounded_0 : decode cX1_grounded 0 = .ok (.aload_n 0, 1) := by decide +kernel
theorem dX1_grounded_1 : decode cX1_grounded 1 = .ok (.iconst 0, 1) := by decide +kernel
theorem dX1_grounded_2 : decode cX1_grounded 2 = .ok (.putfield 53, 3) := by decide +kernel
theorem dX1_grounded_5 : decode cX1_grounded 5 = .ok (.aload_n 0, 1) := by decide +kernel
theorem dX1_grounded_6 : decode cX1_grounded 6 = .ok (.iconst 0, 1) := by decide +kernel
theorem dX1_grounded_7 : decode cX1_grounded 7 = .ok (.putfield 56, 3) := by decide +kernel
theorem dX1_grounded_10 : decode cX1_grounded 10 = .ok (.aload_n 0, 1) := by decide +kernel
theorem dX1_grounded_11 : decode cX1_grounded 11 = .ok (.iconst 1, 1) := by decide +kernel
theorem dX1_grounded_12 : decode cX1_grounded 12 = .ok (.putfield 59, 3) := by decide +kernel
theorem dX1_grounded_15 : decode cX1_grounded 15 = .ok (.iconst 0, 1) := by decide +kernel
theorem dX1_grounded_16 : decode cX1_grounded 16 = .ok (.istore_n 1, 1) := by decide +kernel
theorem dX1_grounded_17 : decode cX1_grounded 17 = .ok (.iload_n 1, 1) := by decide +kernel
theorem dX1_grounded_18 : decode cX1_grounded 18 = .ok (.aload_n 0, 1) := by decide +kernel
theorem dX1_grounded_19 : decode cX1_grounded 19 = .ok (.getfield 38, 3) := by decide +kernel
theorem dX1_grounded_22 : decode cX1_grounded 22 = .ok (.if_icmp .gt 99, 3) := by decide +kernel
theorem dX1_grounded_25 : decode cX1_grounded 25 = .ok (.aload_n 0, 1) := by decide +kernel
theorem dX1_grounded_26 : decode cX1_grounded 26 = .ok (.getfield 59, 3) := by decide +kernel
theorem dX1_grounded_29 : decode cX1_grounded 29 = .ok (.ifCond .eq 92, 3) := by decide +kernel
theorem dX1_grounded_32 : decode cX1_grounded 32 = .ok (.aload_n 0, 1) := by decide +kernel
theorem dX1_grounded_33 : decode cX1_grounded 33 = .ok (.iconst 0, 1) := by decide +kernel
theorem dX1_grounded_34 : decode cX1_grounded 34 = .ok (.putfield 59, 3) := by decide +kernel
theorem dX1_grounded_37 : decode cX1_grounded 37 = .ok (.iconst 0, 1) := by decide +kernel
theorem dX1_grounded_38 : decode cX1_grounded 38 = .ok (.istore_n 2, 1) := by decide +kernel
theorem dX1_grounded_39 : decode cX1_grounded 39 = .ok (.iload_n 2, 1) := by decide +kernel
theorem dX1_grounded_40 : decode cX1_grounded 40 = .ok (.aload_n 0, 1) := by decide +kernel
theorem dX1_grounded_41 : decode cX1_grounded 41 = .ok (.getfield 38, 3) := by decide +kernel
theorem dX1_grounded_44 : decode cX1_grounded 44 = .ok (.if_icmp .ge 71, 3) := by decide +kernel
theorem dX1_grounded_47 : decode cX1_grounded 47 = .ok (.aload_n 0, 1) := by decide +kernel
theorem dX1_grounded_48 : decode cX1_grounded 48 = .ok (.getfield 7, 3) := by decide +kernel
theorem dX1_grounded_51 : decode cX1_grounded 51 = .ok (.iload_n 2, 1) := by decide +kernel
theorem dX1_grounded_52 : decode cX1_grounded 52 = .ok (.iaload, 1) := by decide +kernel
theorem dX1_grounded_53 : decode cX1_grounded 53 = .ok (.aload_n 0, 1) := by decide +kernel
theorem dX1_grounded_54 : decode cX1_grounded 54 = .ok (.getfield 56, 3) := by decide +kernel
theorem dX1_grounded_57 : decode cX1_grounded 57 = .ok (.iconst (-1), 1) := by decide +kernel
theorem dX1_grounded_58 : decode cX1_grounded 58 = .ok (.ixor, 1) := by decide +kernel
theorem dX1_grounded_59 : decode cX1_grounded 59 = .ok (.iand, 1) := by decide +kernel
theorem dX1_grounded_60 : decode cX1_grounded 60 = .ok (.ifCond .ne 49, 3) := by decide +kernel
theorem dX1_grounded_63 : decode cX1_grounded 63 = .ok (.aload_n 0, 1) := by decide +kernel
theorem dX1_grounded_64 : decode cX1_grounded 64 = .ok (.getfield 53, 3) := by decide +kernel
theorem dX1_grounded_67 : decode cX1_grounded 67 = .ok (.iload_n 2, 1) := by decide +kernel
theorem dX1_grounded_68 : decode cX1_grounded 68 = .ok (.ishr, 1) := by decide +kernel
theorem dX1_grounded_69 : decode cX1_grounded 69 = .ok (.iconst 1, 1) := by decide +kernel
theorem dX1_grounded_70 : decode cX1_grounded 70 = .ok (.iand, 1) := by decide +kernel
theorem dX1_grounded_71 : decode cX1_grounded 71 = .ok (.ifCond .eq 6, 3) := by decide +kernel
theorem dX1_grounded_74 : decode cX1_grounded 74 = .ok (.goto 35, 3) := by decide +kernel
theorem dX1_grounded_77 : decode cX1_grounded 77 = .ok (.aload_n 0, 1) := by decide +kernel
theorem dX1_grounded_78 : decode cX1_grounded 78 = .ok (.dup, 1) := by decide +kernel
theorem dX1_grounded_79 : decode cX1_grounded 79 = .ok (.getfield 53, 3) := by decide +kernel
theorem dX1_grounded_82 : decode cX1_grounded 82 = .ok (.iconst 1, 1) := by decide +kernel
theorem dX1_grounded_83 : decode cX1_grounded 83 = .ok (.iload_n 2, 1) := by decide +kernel
theorem dX1_grounded_84 : decode cX1_grounded 84 = .ok (.ishl, 1) := by decide +kernel
theorem dX1_grounded_85 : decode cX1_grounded 85 = .ok (.ior, 1) := by decide +kernel
theorem dX1_grounded_86 : decode cX1_grounded 86 = .ok (.putfield 53, 3) := by decide +kernel
theorem dX1_grounded_89 : decode cX1_grounded 89 = .ok (.aload_n 0, 1) := by decide +kernel
theorem dX1_grounded_90 : decode cX1_grounded 90 = .ok (.dup, 1) := by decide +kernel
theorem dX1_grounded_91 : decode cX1_grounded 91 = .ok (.getfield 56, 3) := by decide +kernel
theorem dX1_grounded_94 : decode cX1_grounded 94 = .ok (.aload_n 0, 1) := by decide +kernel
theorem dX1_grounded_95 : decode cX1_grounded 95 = .ok (.getfield 13, 3) := by decide +kernel
theorem dX1_grounded_98 : decode cX1_grounded 98 = .ok (.iload_n 2, 1) := by decide +kernel
theorem dX1_grounded_99 : decode cX1_grounded 99 = .ok (.iaload, 1) := by decide +kernel
theorem dX1_grounded_100 : decode cX1_grounded 100 = .ok (.ior, 1) := by decide +kernel
theorem dX1_grounded_101 : decode cX1_grounded 101 = .ok (.putfield 56, 3) := by decide +kernel
theorem dX1_grounded_104 : decode cX1_grounded 104 = .ok (.aload_n 0, 1) := by decide +kernel
theorem dX1_grounded_105 : decode cX1_grounded 105 = .ok (.iconst 1, 1) := by decide +kernel
theorem dX1_grounded_106 : decode cX1_grounded 106 = .ok (.putfield 59, 3) := by decide +kernel
theorem dX1_grounded_109 : decode cX1_grounded 109 = .ok (.iinc 2 1, 3) := by decide +kernel
theorem dX1_grounded_112 : decode cX1_grounded 112 = .ok (.goto (-73), 3) := by decide +kernel
theorem dX1_grounded_115 : decode cX1_grounded 115 = .ok (.iinc 1 1, 3) := by decide +kernel
theorem dX1_grounded_118 : decode cX1_grounded 118 = .ok (.goto (-101), 3) := by decide +kernel
theorem dX1_grounded_121 : decode cX1_grounded 121 = .ok (.aload_n 0, 1) := by decide +kernel
theorem dX1_grounded_122 : decode cX1_grounded 122 = .ok (.getfield 53, 3) := by decide +kernel
theorem dX1_grounded_125 : decode cX1_grounded 125 = .ok (.ireturn, 1) := by decide +kernel
abbrev cX1_count : ByteArray := prog_1_method_6_code
def yX1_count : MethodName := ⟨RX1, "count", "(I)I"⟩
theorem dX1_count_0 : decode cX1_count 0 = .ok (.iload_n 1, 1) := by decide +kernel
theorem dX1_count_1 : decode cX1_count 1 = .ok (.ifCond .lt 8, 3) := by decide +kernel
theorem dX1_count_4 : decode cX1_count 4 = .ok (.iload_n 1, 1) := by decide +kernel
theorem dX1_count_5 : decode cX1_count 5 = .ok (.iconst 3, 1) := by decide +kernel
theorem dX1_count_6 : decode cX1_count 6 = .ok (.if_icmp .le 5, 3) := by decide +kernel
theorem dX1_count_9 : decode cX1_count 9 = .ok (.iconst (-1), 1) := by decide +kernel
theorem dX1_count_10 : decode cX1_count 10 = .ok (.ireturn, 1) := by decide +kernel
theorem dX1_count_11 : decode cX1_count 11 = .ok (.aload_n 0, 1) := by decide +kernel
theorem dX1_count_12 : decode cX1_count 12 = .ok (.invokevirtual 62, 3) := by decide +kernel
theorem dX1_count_15 : decode cX1_count 15 = .ok (.iconst 0, 1) := by decide +kernel
theorem dX1_count_16 : decode cX1_count 16 = .ok (.istore_n 2, 1) := by decide +kernel
theorem dX1_count_17 : decode cX1_count 17 = .ok (.iconst 0, 1) := by decide +kernel
theorem dX1_count_18 : decode cX1_count 18 = .ok (.istore_n 3, 1) := by decide +kernel
theorem dX1_count_19 : decode cX1_count 19 = .ok (.iload_n 3, 1) := by decide +kernel
theorem dX1_count_20 : decode cX1_count 20 = .ok (.sipush 256, 3) := by decide +kernel
theorem dX1_count_23 : decode cX1_count 23 = .ok (.if_icmp .ge 22, 3) := by decide +kernel
theorem dX1_count_26 : decode cX1_count 26 = .ok (.iload_n 2, 1) := by decide +kernel
theorem dX1_count_27 : decode cX1_count 27 = .ok (.aload_n 0, 1) := by decide +kernel
theorem dX1_count_28 : decode cX1_count 28 = .ok (.getfield 32, 3) := by decide +kernel
theorem dX1_count_31 : decode cX1_count 31 = .ok (.iload_n 3, 1) := by decide +kernel
theorem dX1_count_32 : decode cX1_count 32 = .ok (.baload, 1) := by decide +kernel
theorem dX1_count_33 : decode cX1_count 33 = .ok (.iload_n 1, 1) := by decide +kernel
theorem dX1_count_34 : decode cX1_count 34 = .ok (.ishr, 1) := by decide +kernel
theorem dX1_count_35 : decode cX1_count 35 = .ok (.iconst 1, 1) := by decide +kernel
theorem dX1_count_36 : decode cX1_count 36 = .ok (.iand, 1) := by decide +kernel
theorem dX1_count_37 : decode cX1_count 37 = .ok (.iadd, 1) := by decide +kernel
theorem dX1_count_38 : decode cX1_count 38 = .ok (.istore_n 2, 1) := by decide +kernel
theorem dX1_count_39 : decode cX1_count 39 = .ok (.iinc 3 1, 3) := by decide +kernel
theorem dX1_count_42 : decode cX1_count 42 = .ok (.goto (-23), 3) := by decide +kernel
theorem dX1_count_45 : decode cX1_count 45 = .ok (.iload_n 2, 1) := by decide +kernel
theorem dX1_count_46 : decode cX1_count 46 = .ok (.ireturn, 1) := by decide +kernel
abbrev cX1_search : ByteArray := prog_1_method_12_code
def yX1_search : MethodName := ⟨RX1, "search", "()V"⟩
theorem dX1_search_0 : decode cX1_search 0 = .ok (.aload_n 0, 1) := by decide +kernel
theorem dX1_search_1 : decode cX1_search 1 = .ok (.getfield 49, 3) := by decide +kernel
theorem dX1_search_4 : decode cX1_search 4 = .ok (.ifCond .eq 4, 3) := by decide +kernel
theorem dX1_search_7 : decode cX1_search 7 = .ok (.return_, 1) := by decide +kernel
theorem dX1_search_8 : decode cX1_search 8 = .ok (.iconst 0, 1) := by decide +kernel
theorem dX1_search_9 : decode cX1_search 9 = .ok (.istore_n 1, 1) := by decide +kernel
theorem dX1_search_10 : decode cX1_search 10 = .ok (.iload_n 1, 1) := by decide +kernel
theorem dX1_search_11 : decode cX1_search 11 = .ok (.sipush 256, 3) := by decide +kernel
theorem dX1_search_14 : decode cX1_search 14 = .ok (.if_icmp .ge 16, 3) := by decide +kernel
theorem dX1_search_17 : decode cX1_search 17 = .ok (.aload_n 0, 1) := by decide +kernel
theorem dX1_search_18 : decode cX1_search 18 = .ok (.getfield 32, 3) := by decide +kernel
theorem dX1_search_21 : decode cX1_search 21 = .ok (.iload_n 1, 1) := by decide +kernel
theorem dX1_search_22 : decode cX1_search 22 = .ok (.iconst 0, 1) := by decide +kernel
theorem dX1_search_23 : decode cX1_search 23 = .ok (.bastore, 1) := by decide +kernel
theorem dX1_search_24 : decode cX1_search 24 = .ok (.iinc 1 1, 3) := by decide +kernel
theorem dX1_search_27 : decode cX1_search 27 = .ok (.goto (-17), 3) := by decide +kernel
theorem dX1_search_30 : decode cX1_search 30 = .ok (.aload_n 0, 1) := by decide +kernel
theorem dX1_search_31 : decode cX1_search 31 = .ok (.iconst 0, 1) := by decide +kernel
theorem dX1_search_32 : decode cX1_search 32 = .ok (.putfield 53, 3) := by decide +kernel
theorem dX1_search_35 : decode cX1_search 35 = .ok (.aload_n 0, 1) := by decide +kernel
theorem dX1_search_36 : decode cX1_search 36 = .ok (.iconst 0, 1) := by decide +kernel
theorem dX1_search_37 : decode cX1_search 37 = .ok (.putfield 56, 3) := by decide +kernel
theorem dX1_search_40 : decode cX1_search 40 = .ok (.aload_n 0, 1) := by decide +kernel
theorem dX1_search_41 : decode cX1_search 41 = .ok (.iconst 0, 1) := by decide +kernel
theorem dX1_search_42 : decode cX1_search 42 = .ok (.putfield 65, 3) := by decide +kernel
theorem dX1_search_45 : decode cX1_search 45 = .ok (.iconst (-1), 1) := by decide +kernel
theorem dX1_search_46 : decode cX1_search 46 = .ok (.istore_n 1, 1) := by decide +kernel
theorem dX1_search_47 : decode cX1_search 47 = .ok (.aload_n 0, 1) := by decide +kernel
theorem dX1_search_48 : decode cX1_search 48 = .ok (.invokevirtual 68, 3) := by decide +kernel
theorem dX1_search_51 : decode cX1_search 51 = .ok (.ifCond .eq 9, 3) := by decide +kernel
theorem dX1_search_54 : decode cX1_search 54 = .ok (.aload_n 0, 1) := by decide +kernel
theorem dX1_search_55 : decode cX1_search 55 = .ok (.iload_n 1, 1) := by decide +kernel
theorem dX1_search_56 : decode cX1_search 56 = .ok (.invokevirtual 72, 3) := by decide +kernel
theorem dX1_search_59 : decode cX1_search 59 = .ok (.istore_n 1, 1) := by decide +kernel
theorem dX1_search_60 : decode cX1_search 60 = .ok (.iconst 0, 1) := by decide +kernel
theorem dX1_search_61 : decode cX1_search 61 = .ok (.istore_n 2, 1) := by decide +kernel
theorem dX1_search_62 : decode cX1_search 62 = .ok (.iload_n 2, 1) := by decide +kernel
theorem dX1_search_63 : decode cX1_search 63 = .ok (.sipush 30000, 3) := by decide +kernel
theorem dX1_search_66 : decode cX1_search 66 = .ok (.if_icmp .ge 95, 3) := by decide +kernel
theorem dX1_search_69 : decode cX1_search 69 = .ok (.iload_n 1, 1) := by decide +kernel
theorem dX1_search_70 : decode cX1_search 70 = .ok (.ifCond .lt 91, 3) := by decide +kernel
theorem dX1_search_73 : decode cX1_search 73 = .ok (.aload_n 0, 1) := by decide +kernel
theorem dX1_search_74 : decode cX1_search 74 = .ok (.getfield 29, 3) := by decide +kernel
theorem dX1_search_77 : decode cX1_search 77 = .ok (.iload_n 1, 1) := by decide +kernel
theorem dX1_search_78 : decode cX1_search 78 = .ok (.baload, 1) := by decide +kernel
theorem dX1_search_79 : decode cX1_search 79 = .ok (.istore_n 3, 1) := by decide +kernel
theorem dX1_search_80 : decode cX1_search 80 = .ok (.iload_n 3, 1) := by decide +kernel
theorem dX1_search_81 : decode cX1_search 81 = .ok (.iconst 3, 1) := by decide +kernel
theorem dX1_search_82 : decode cX1_search 82 = .ok (.if_icmp .ne 9, 3) := by decide +kernel
theorem dX1_search_85 : decode cX1_search 85 = .ok (.iinc 1 (-1), 3) := by decide +kernel
theorem dX1_search_88 : decode cX1_search 88 = .ok (.goto 67, 3) := by decide +kernel
theorem dX1_search_91 : decode cX1_search 91 = .ok (.aload_n 0, 1) := by decide +kernel
theorem dX1_search_92 : decode cX1_search 92 = .ok (.getfield 29, 3) := by decide +kernel
theorem dX1_search_95 : decode cX1_search 95 = .ok (.iload_n 1, 1) := by decide +kernel
theorem dX1_search_96 : decode cX1_search 96 = .ok (.iload_n 3, 1) := by decide +kernel
theorem dX1_search_97 : decode cX1_search 97 = .ok (.iconst 1, 1) := by decide +kernel
theorem dX1_search_98 : decode cX1_search 98 = .ok (.iadd, 1) := by decide +kernel
theorem dX1_search_99 : decode cX1_search 99 = .ok (.i2b, 1) := by decide +kernel
theorem dX1_search_100 : decode cX1_search 100 = .ok (.bastore, 1) := by decide +kernel
theorem dX1_search_101 : decode cX1_search 101 = .ok (.aload_n 0, 1) := by decide +kernel
theorem dX1_search_102 : decode cX1_search 102 = .ok (.aload_n 0, 1) := by decide +kernel
theorem dX1_search_103 : decode cX1_search 103 = .ok (.getfield 16, 3) := by decide +kernel
theorem dX1_search_106 : decode cX1_search 106 = .ok (.iload_n 1, 1) := by decide +kernel
theorem dX1_search_107 : decode cX1_search 107 = .ok (.iaload, 1) := by decide +kernel
theorem dX1_search_108 : decode cX1_search 108 = .ok (.putfield 53, 3) := by decide +kernel
theorem dX1_search_111 : decode cX1_search 111 = .ok (.aload_n 0, 1) := by decide +kernel
theorem dX1_search_112 : decode cX1_search 112 = .ok (.aload_n 0, 1) := by decide +kernel
theorem dX1_search_113 : decode cX1_search 113 = .ok (.getfield 19, 3) := by decide +kernel
theorem dX1_search_116 : decode cX1_search 116 = .ok (.iload_n 1, 1) := by decide +kernel
theorem dX1_search_117 : decode cX1_search 117 = .ok (.iaload, 1) := by decide +kernel
theorem dX1_search_118 : decode cX1_search 118 = .ok (.putfield 56, 3) := by decide +kernel
theorem dX1_search_121 : decode cX1_search 121 = .ok (.aload_n 0, 1) := by decide +kernel
theorem dX1_search_122 : decode cX1_search 122 = .ok (.aload_n 0, 1) := by decide +kernel
theorem dX1_search_123 : decode cX1_search 123 = .ok (.getfield 22, 3) := by decide +kernel
theorem dX1_search_126 : decode cX1_search 126 = .ok (.iload_n 1, 1) := by decide +kernel
theorem dX1_search_127 : decode cX1_search 127 = .ok (.iaload, 1) := by decide +kernel
theorem dX1_search_128 : decode cX1_search 128 = .ok (.putfield 65, 3) := by decide +kernel
theorem dX1_search_131 : decode cX1_search 131 = .ok (.aload_n 0, 1) := by decide +kernel
theorem dX1_search_132 : decode cX1_search 132 = .ok (.aload_n 0, 1) := by decide +kernel
theorem dX1_search_133 : decode cX1_search 133 = .ok (.getfield 25, 3) := by decide +kernel
theorem dX1_search_136 : decode cX1_search 136 = .ok (.iload_n 1, 1) := by decide +kernel
theorem dX1_search_137 : decode cX1_search 137 = .ok (.baload, 1) := by decide +kernel
theorem dX1_search_138 : decode cX1_search 138 = .ok (.iload_n 3, 1) := by decide +kernel
theorem dX1_search_139 : decode cX1_search 139 = .ok (.invokevirtual 76, 3) := by decide +kernel
theorem dX1_search_142 : decode cX1_search 142 = .ok (.aload_n 0, 1) := by decide +kernel
theorem dX1_search_143 : decode cX1_search 143 = .ok (.invokevirtual 68, 3) := by decide +kernel
theorem dX1_search_146 : decode cX1_search 146 = .ok (.ifCond .eq 9, 3) := by decide +kernel
theorem dX1_search_149 : decode cX1_search 149 = .ok (.aload_n 0, 1) := by decide +kernel
theorem dX1_search_150 : decode cX1_search 150 = .ok (.iload_n 1, 1) := by decide +kernel
theorem dX1_search_151 : decode cX1_search 151 = .ok (.invokevirtual 72, 3) := by decide +kernel
theorem dX1_search_154 : decode cX1_search 154 = .ok (.istore_n 1, 1) := by decide +kernel
theorem dX1_search_155 : decode cX1_search 155 = .ok (.iinc 2 1, 3) := by decide +kernel
theorem dX1_search_158 : decode cX1_search 158 = .ok (.goto (-96), 3) := by decide +kernel
theorem dX1_search_161 : decode cX1_search 161 = .ok (.aload_n 0, 1) := by decide +kernel
theorem dX1_search_162 : decode cX1_search 162 = .ok (.invokevirtual 80, 3) := by decide +kernel
theorem dX1_search_165 : decode cX1_search 165 = .ok (.aload_n 0, 1) := by decide +kernel
theorem dX1_search_166 : decode cX1_search 166 = .ok (.iconst 1, 1) := by decide +kernel
theorem dX1_search_167 : decode cX1_search 167 = .ok (.putfield 49, 3) := by decide +kernel
theorem dX1_search_170 : decode cX1_search 170 = .ok (.return_, 1) := by decide +kernel
end
section
set_option maxRecDepth 100000
abbrev cX1_propagate : ByteArray := prog_1_method_15_code
def yX1_propagate : MethodName := ⟨RX1, "propagate", "()Z"⟩
theorem dX1_propagate_0 : decode cX1_propagate 0 = .ok (.aload_n 0, 1) := by decide +kernel
theorem dX1_propagate_1 : decode cX1_propagate 1 = .ok (.iconst 1, 1) := by decide +kernel
theorem dX1_propagate_2 : decode cX1_propagate 2 = .ok (.putfield 59, 3) := by decide +kernel
theorem dX1_propagate_5 : decode cX1_propagate 5 = .ok (.iconst 0, 1) := by decide +kernel
theorem dX1_propagate_6 : decode cX1_propagate 6 = .ok (.istore_n 1, 1) := by decide +kernel
theorem dX1_propagate_7 : decode cX1_propagate 7 = .ok (.iload_n 1, 1) := by decide +kernel
theorem dX1_propagate_8 : decode cX1_propagate 8 = .ok (.bipush 10, 2) := by decide +kernel
theorem dX1_propagate_10 : decode cX1_propagate 10 = .ok (.if_icmp .ge 55, 3) := by decide +kernel
theorem dX1_propagate_13 : decode cX1_propagate 13 = .ok (.aload_n 0, 1) := by decide +kernel
theorem dX1_propagate_14 : decode cX1_propagate 14 = .ok (.getfield 59, 3) := by decide +kernel
theorem dX1_propagate_17 : decode cX1_propagate 17 = .ok (.ifCond .eq 48, 3) := by decide +kernel
theorem dX1_propagate_20 : decode cX1_propagate 20 = .ok (.aload_n 0, 1) := by decide +kernel
theorem dX1_propagate_21 : decode cX1_propagate 21 = .ok (.iconst 0, 1) := by decide +kernel
theorem dX1_propagate_22 : decode cX1_propagate 22 = .ok (.putfield 59, 3) := by decide +kernel
theorem dX1_propagate_25 : decode cX1_propagate 25 = .ok (.iconst 0, 1) := by decide +kernel
theorem dX1_propagate_26 : decode cX1_propagate 26 = .ok (.istore_n 2, 1) := by decide +kernel
theorem dX1_propagate_27 : decode cX1_propagate 27 = .ok (.iload_n 2, 1) := by decide +kernel
theorem dX1_propagate_28 : decode cX1_propagate 28 = .ok (.aload_n 0, 1) := by decide +kernel
theorem dX1_propagate_29 : decode cX1_propagate 29 = .ok (.getfield 38, 3) := by decide +kernel
theorem dX1_propagate_32 : decode cX1_propagate 32 = .ok (.if_icmp .ge 27, 3) := by decide +kernel
theorem dX1_propagate_35 : decode cX1_propagate 35 = .ok (.aload_n 0, 1) := by decide +kernel
theorem dX1_propagate_36 : decode cX1_propagate 36 = .ok (.iload_n 2, 1) := by decide +kernel
theorem dX1_propagate_37 : decode cX1_propagate 37 = .ok (.invokevirtual 83, 3) := by decide +kernel
theorem dX1_propagate_40 : decode cX1_propagate 40 = .ok (.ifCond .eq 11, 3) := by decide +kernel
theorem dX1_propagate_43 : decode cX1_propagate 43 = .ok (.aload_n 0, 1) := by decide +kernel
theorem dX1_propagate_44 : decode cX1_propagate 44 = .ok (.iload_n 2, 1) := by decide +kernel
theorem dX1_propagate_45 : decode cX1_propagate 45 = .ok (.invokevirtual 86, 3) := by decide +kernel
theorem dX1_propagate_48 : decode cX1_propagate 48 = .ok (.ifCond .ne 5, 3) := by decide +kernel
theorem dX1_propagate_51 : decode cX1_propagate 51 = .ok (.iconst 0, 1) := by decide +kernel
theorem dX1_propagate_52 : decode cX1_propagate 52 = .ok (.ireturn, 1) := by decide +kernel
theorem dX1_propagate_53 : decode cX1_propagate 53 = .ok (.iinc 2 1, 3) := by decide +kernel
theorem dX1_propagate_56 : decode cX1_propagate 56 = .ok (.goto (-29), 3) := by decide +kernel
theorem dX1_propagate_59 : decode cX1_propagate 59 = .ok (.iinc 1 1, 3) := by decide +kernel
theorem dX1_propagate_62 : decode cX1_propagate 62 = .ok (.goto (-55), 3) := by decide +kernel
theorem dX1_propagate_65 : decode cX1_propagate 65 = .ok (.iconst 1, 1) := by decide +kernel
theorem dX1_propagate_66 : decode cX1_propagate 66 = .ok (.ireturn, 1) := by decide +kernel
abbrev cX1_conclude : ByteArray := prog_1_method_16_code
def yX1_conclude : MethodName := ⟨RX1, "conclude", "(I)Z"⟩
theorem dX1_conclude_0 : decode cX1_conclude 0 = .ok (.iconst 1, 1) := by decide +kernel
theorem dX1_conclude_1 : decode cX1_conclude 1 = .ok (.iload_n 1, 1) := by decide +kernel
theorem dX1_conclude_2 : decode cX1_conclude 2 = .ok (.ishl, 1) := by decide +kernel
theorem dX1_conclude_3 : decode cX1_conclude 3 = .ok (.istore_n 2, 1) := by decide +kernel
theorem dX1_conclude_4 : decode cX1_conclude 4 = .ok (.aload_n 0, 1) := by decide +kernel
theorem dX1_conclude_5 : decode cX1_conclude 5 = .ok (.getfield 7, 3) := by decide +kernel
theorem dX1_conclude_8 : decode cX1_conclude 8 = .ok (.iload_n 1, 1) := by decide +kernel
theorem dX1_conclude_9 : decode cX1_conclude 9 = .ok (.iaload, 1) := by decide +kernel
theorem dX1_conclude_10 : decode cX1_conclude 10 = .ok (.istore_n 3, 1) := by decide +kernel
theorem dX1_conclude_11 : decode cX1_conclude 11 = .ok (.aload_n 0, 1) := by decide +kernel
theorem dX1_conclude_12 : decode cX1_conclude 12 = .ok (.getfield 42, 3) := by decide +kernel
theorem dX1_conclude_15 : decode cX1_conclude 15 = .ok (.aload_n 0, 1) := by decide +kernel
theorem dX1_conclude_16 : decode cX1_conclude 16 = .ok (.getfield 53, 3) := by decide +kernel
theorem dX1_conclude_19 : decode cX1_conclude 19 = .ok (.aload_n 0, 1) := by decide +kernel
theorem dX1_conclude_20 : decode cX1_conclude 20 = .ok (.getfield 56, 3) := by decide +kernel
theorem dX1_conclude_23 : decode cX1_conclude 23 = .ok (.ior, 1) := by decide +kernel
theorem dX1_conclude_24 : decode cX1_conclude 24 = .ok (.aload_n 0, 1) := by decide +kernel
theorem dX1_conclude_25 : decode cX1_conclude 25 = .ok (.getfield 65, 3) := by decide +kernel
theorem dX1_conclude_28 : decode cX1_conclude 28 = .ok (.ior, 1) := by decide +kernel
theorem dX1_conclude_29 : decode cX1_conclude 29 = .ok (.iconst (-1), 1) := by decide +kernel
theorem dX1_conclude_30 : decode cX1_conclude 30 = .ok (.ixor, 1) := by decide +kernel
theorem dX1_conclude_31 : decode cX1_conclude 31 = .ok (.iand, 1) := by decide +kernel
theorem dX1_conclude_32 : decode cX1_conclude 32 = .ok (.istore 4, 2) := by decide +kernel
theorem dX1_conclude_34 : decode cX1_conclude 34 = .ok (.iload_n 3, 1) := by decide +kernel
theorem dX1_conclude_35 : decode cX1_conclude 35 = .ok (.aload_n 0, 1) := by decide +kernel
theorem dX1_conclude_36 : decode cX1_conclude 36 = .ok (.getfield 53, 3) := by decide +kernel
theorem dX1_conclude_39 : decode cX1_conclude 39 = .ok (.iand, 1) := by decide +kernel
theorem dX1_conclude_40 : decode cX1_conclude 40 = .ok (.ifCond .eq 35, 3) := by decide +kernel
theorem dX1_conclude_43 : decode cX1_conclude 43 = .ok (.aload_n 0, 1) := by decide +kernel
theorem dX1_conclude_44 : decode cX1_conclude 44 = .ok (.getfield 53, 3) := by decide +kernel
theorem dX1_conclude_47 : decode cX1_conclude 47 = .ok (.aload_n 0, 1) := by decide +kernel
theorem dX1_conclude_48 : decode cX1_conclude 48 = .ok (.getfield 65, 3) := by decide +kernel
theorem dX1_conclude_51 : decode cX1_conclude 51 = .ok (.ior, 1) := by decide +kernel
theorem dX1_conclude_52 : decode cX1_conclude 52 = .ok (.iload_n 2, 1) := by decide +kernel
theorem dX1_conclude_53 : decode cX1_conclude 53 = .ok (.iand, 1) := by decide +kernel
theorem dX1_conclude_54 : decode cX1_conclude 54 = .ok (.ifCond .eq 5, 3) := by decide +kernel
theorem dX1_conclude_57 : decode cX1_conclude 57 = .ok (.iconst 0, 1) := by decide +kernel
theorem dX1_conclude_58 : decode cX1_conclude 58 = .ok (.ireturn, 1) := by decide +kernel
theorem dX1_conclude_59 : decode cX1_conclude 59 = .ok (.iload 4, 2) := by decide +kernel
theorem dX1_conclude_61 : decode cX1_conclude 61 = .ok (.iload_n 2, 1) := by decide +kernel
theorem dX1_conclude_62 : decode cX1_conclude 62 = .ok (.iand, 1) := by decide +kernel
theorem dX1_conclude_63 : decode cX1_conclude 63 = .ok (.ifCond .eq 75, 3) := by decide +kernel
theorem dX1_conclude_66 : decode cX1_conclude 66 = .ok (.aload_n 0, 1) := by decide +kernel
theorem dX1_conclude_67 : decode cX1_conclude 67 = .ok (.iload_n 1, 1) := by decide +kernel
theorem dX1_conclude_68 : decode cX1_conclude 68 = .ok (.iconst 1, 1) := by decide +kernel
theorem dX1_conclude_69 : decode cX1_conclude 69 = .ok (.invokevirtual 76, 3) := by decide +kernel
theorem dX1_conclude_72 : decode cX1_conclude 72 = .ok (.goto 66, 3) := by decide +kernel
theorem dX1_conclude_75 : decode cX1_conclude 75 = .ok (.iload_n 3, 1) := by decide +kernel
theorem dX1_conclude_76 : decode cX1_conclude 76 = .ok (.aload_n 0, 1) := by decide +kernel
theorem dX1_conclude_77 : decode cX1_conclude 77 = .ok (.getfield 56, 3) := by decide +kernel
theorem dX1_conclude_80 : decode cX1_conclude 80 = .ok (.iconst (-1), 1) := by decide +kernel
theorem dX1_conclude_81 : decode cX1_conclude 81 = .ok (.ixor, 1) := by decide +kernel
theorem dX1_conclude_82 : decode cX1_conclude 82 = .ok (.iand, 1) := by decide +kernel
theorem dX1_conclude_83 : decode cX1_conclude 83 = .ok (.ifCond .ne 35, 3) := by decide +kernel
theorem dX1_conclude_86 : decode cX1_conclude 86 = .ok (.aload_n 0, 1) := by decide +kernel
theorem dX1_conclude_87 : decode cX1_conclude 87 = .ok (.getfield 56, 3) := by decide +kernel
theorem dX1_conclude_90 : decode cX1_conclude 90 = .ok (.aload_n 0, 1) := by decide +kernel
theorem dX1_conclude_91 : decode cX1_conclude 91 = .ok (.getfield 65, 3) := by decide +kernel
theorem dX1_conclude_94 : decode cX1_conclude 94 = .ok (.ior, 1) := by decide +kernel
theorem dX1_conclude_95 : decode cX1_conclude 95 = .ok (.iload_n 2, 1) := by decide +kernel
theorem dX1_conclude_96 : decode cX1_conclude 96 = .ok (.iand, 1) := by decide +kernel
theorem dX1_conclude_97 : decode cX1_conclude 97 = .ok (.ifCond .eq 5, 3) := by decide +kernel
theorem dX1_conclude_100 : decode cX1_conclude 100 = .ok (.iconst 0, 1) := by decide +kernel
theorem dX1_conclude_101 : decode cX1_conclude 101 = .ok (.ireturn, 1) := by decide +kernel
theorem dX1_conclude_102 : decode cX1_conclude 102 = .ok (.iload 4, 2) := by decide +kernel
theorem dX1_conclude_104 : decode cX1_conclude 104 = .ok (.iload_n 2, 1) := by decide +kernel
theorem dX1_conclude_105 : decode cX1_conclude 105 = .ok (.iand, 1) := by decide +kernel
theorem dX1_conclude_106 : decode cX1_conclude 106 = .ok (.ifCond .eq 32, 3) := by decide +kernel
theorem dX1_conclude_109 : decode cX1_conclude 109 = .ok (.aload_n 0, 1) := by decide +kernel
theorem dX1_conclude_110 : decode cX1_conclude 110 = .ok (.iload_n 1, 1) := by decide +kernel
theorem dX1_conclude_111 : decode cX1_conclude 111 = .ok (.iconst 0, 1) := by decide +kernel
theorem dX1_conclude_112 : decode cX1_conclude 112 = .ok (.invokevirtual 76, 3) := by decide +kernel
theorem dX1_conclude_115 : decode cX1_conclude 115 = .ok (.goto 23, 3) := by decide +kernel
theorem dX1_conclude_118 : decode cX1_conclude 118 = .ok (.iload_n 3, 1) := by decide +kernel
theorem dX1_conclude_119 : decode cX1_conclude 119 = .ok (.iload 4, 2) := by decide +kernel
theorem dX1_conclude_121 : decode cX1_conclude 121 = .ok (.iand, 1) := by decide +kernel
theorem dX1_conclude_122 : decode cX1_conclude 122 = .ok (.ifCond .ne 16, 3) := by decide +kernel
theorem dX1_conclude_125 : decode cX1_conclude 125 = .ok (.iload 4, 2) := by decide +kernel
theorem dX1_conclude_127 : decode cX1_conclude 127 = .ok (.iload_n 2, 1) := by decide +kernel
theorem dX1_conclude_128 : decode cX1_conclude 128 = .ok (.iand, 1) := by decide +kernel
theorem dX1_conclude_129 : decode cX1_conclude 129 = .ok (.ifCond .eq 9, 3) := by decide +kernel
theorem dX1_conclude_132 : decode cX1_conclude 132 = .ok (.aload_n 0, 1) := by decide +kernel
theorem dX1_conclude_133 : decode cX1_conclude 133 = .ok (.iload_n 1, 1) := by decide +kernel
theorem dX1_conclude_134 : decode cX1_conclude 134 = .ok (.iconst 2, 1) := by decide +kernel
theorem dX1_conclude_135 : decode cX1_conclude 135 = .ok (.invokevirtual 76, 3) := by decide +kernel
theorem dX1_conclude_138 : decode cX1_conclude 138 = .ok (.iconst 1, 1) := by decide +kernel
theorem dX1_conclude_139 : decode cX1_conclude 139 = .ok (.ireturn, 1) := by decide +kernel
abbrev cX1_label : ByteArray := prog_1_method_14_code
def yX1_label : MethodName := ⟨RX1, "label", "(II)V"⟩
theorem dX1_label_0 : decode cX1_label 0 = .ok (.aload_n 0, 1) := by decide +kernel
theorem dX1_label_1 : decode cX1_label 1 = .ok (.iconst 1, 1) := by decide +kernel
theorem dX1_label_2 : decode cX1_label 2 = .ok (.putfield 59, 3) := by decide +kernel
theorem dX1_label_5 : decode cX1_label 5 = .ok (.iload_n 2, 1) := by decide +kernel
theorem dX1_label_6 : decode cX1_label 6 = .ok (.ifCond .ne 18, 3) := by decide +kernel
theorem dX1_label_9 : decode cX1_label 9 = .ok (.aload_n 0, 1) := by decide +kernel
theorem dX1_label_10 : decode cX1_label 10 = .ok (.dup, 1) := by decide +kernel
theorem dX1_label_11 : decode cX1_label 11 = .ok (.getfield 53, 3) := by decide +kernel
theorem dX1_label_14 : decode cX1_label 14 = .ok (.iconst 1, 1) := by decide +kernel
theorem dX1_label_15 : decode cX1_label 15 = .ok (.iload_n 1, 1) := by decide +kernel
theorem dX1_label_16 : decode cX1_label 16 = .ok (.ishl, 1) := by decide +kernel
theorem dX1_label_17 : decode cX1_label 17 = .ok (.ior, 1) := by decide +kernel
theorem dX1_label_18 : decode cX1_label 18 = .ok (.putfield 53, 3) := by decide +kernel
theorem dX1_label_21 : decode cX1_label 21 = .ok (.goto 35, 3) := by decide +kernel
theorem dX1_label_24 : decode cX1_label 24 = .ok (.iload_n 2, 1) := by decide +kernel
theorem dX1_label_25 : decode cX1_label 25 = .ok (.iconst 1, 1) := by decide +kernel
theorem dX1_label_26 : decode cX1_label 26 = .ok (.if_icmp .ne 18, 3) := by decide +kernel
theorem dX1_label_29 : decode cX1_label 29 = .ok (.aload_n 0, 1) := by decide +kernel
theorem dX1_label_30 : decode cX1_label 30 = .ok (.dup, 1) := by decide +kernel
theorem dX1_label_31 : decode cX1_label 31 = .ok (.getfield 56, 3) := by decide +kernel
theorem dX1_label_34 : decode cX1_label 34 = .ok (.iconst 1, 1) := by decide +kernel
theorem dX1_label_35 : decode cX1_label 35 = .ok (.iload_n 1, 1) := by decide +kernel
theorem dX1_label_36 : decode cX1_label 36 = .ok (.ishl, 1) := by decide +kernel
theorem dX1_label_37 : decode cX1_label 37 = .ok (.ior, 1) := by decide +kernel
theorem dX1_label_38 : decode cX1_label 38 = .ok (.putfield 56, 3) := by decide +kernel
theorem dX1_label_41 : decode cX1_label 41 = .ok (.goto 15, 3) := by decide +kernel
theorem dX1_label_44 : decode cX1_label 44 = .ok (.aload_n 0, 1) := by decide +kernel
theorem dX1_label_45 : decode cX1_label 45 = .ok (.dup, 1) := by decide +kernel
theorem dX1_label_46 : decode cX1_label 46 = .ok (.getfield 65, 3) := by decide +kernel
theorem dX1_label_49 : decode cX1_label 49 = .ok (.iconst 1, 1) := by decide +kernel
theorem dX1_label_50 : decode cX1_label 50 = .ok (.iload_n 1, 1) := by decide +kernel
theorem dX1_label_51 : decode cX1_label 51 = .ok (.ishl, 1) := by decide +kernel
theorem dX1_label_52 : decode cX1_label 52 = .ok (.ior, 1) := by decide +kernel
theorem dX1_label_53 : decode cX1_label 53 = .ok (.putfield 65, 3) := by decide +kernel
theorem dX1_label_56 : decode cX1_label 56 = .ok (.return_, 1) := by decide +kernel
abbrev cX1_support : ByteArray := prog_1_method_17_code
def yX1_support : MethodName := ⟨RX1, "support", "(I)Z"⟩
theorem dX1_support_0 : decode cX1_support 0 = .ok (.aload_n 0, 1) := by decide +kernel
theorem dX1_support_1 : decode cX1_support 1 = .ok (.getfield 7, 3) := by decide +kernel
theorem dX1_support_4 : decode cX1_support 4 = .ok (.iload_n 1, 1) := by decide +kernel
theorem dX1_support_5 : decode cX1_support 5 = .ok (.iaload, 1) := by decide +kernel
theorem dX1_support_6 : decode cX1_support 6 = .ok (.istore_n 2, 1) := by decide +kernel
theorem dX1_support_7 : decode cX1_support 7 = .ok (.iload_n 2, 1) := by decide +kernel
theorem dX1_support_8 : decode cX1_support 8 = .ok (.aload_n 0, 1) := by decide +kernel
theorem dX1_support_9 : decode cX1_support 9 = .ok (.getfield 53, 3) := by decide +kernel
theorem dX1_support_12 : decode cX1_support 12 = .ok (.aload_n 0, 1) := by decide +kernel
theorem dX1_support_13 : decode cX1_support 13 = .ok (.getfield 56, 3) := by decide +kernel
theorem dX1_support_16 : decode cX1_support 16 = .ok (.ior, 1) := by decide +kernel
theorem dX1_support_17 : decode cX1_support 17 = .ok (.aload_n 0, 1) := by decide +kernel
theorem dX1_support_18 : decode cX1_support 18 = .ok (.getfield 65, 3) := by decide +kernel
theorem dX1_support_21 : decode cX1_support 21 = .ok (.ior, 1) := by decide +kernel
theorem dX1_support_22 : decode cX1_support 22 = .ok (.iconst (-1), 1) := by decide +kernel
theorem dX1_support_23 : decode cX1_support 23 = .ok (.ixor, 1) := by decide +kernel
theorem dX1_support_24 : decode cX1_support 24 = .ok (.iand, 1) := by decide +kernel
theorem dX1_support_25 : decode cX1_support 25 = .ok (.istore_n 3, 1) := by decide +kernel
theorem dX1_support_26 : decode cX1_support 26 = .ok (.aload_n 0, 1) := by decide +kernel
theorem dX1_support_27 : decode cX1_support 27 = .ok (.getfield 53, 3) := by decide +kernel
theorem dX1_support_30 : decode cX1_support 30 = .ok (.iload_n 1, 1) := by decide +kernel
theorem dX1_support_31 : decode cX1_support 31 = .ok (.ishr, 1) := by decide +kernel
theorem dX1_support_32 : decode cX1_support 32 = .ok (.iconst 1, 1) := by decide +kernel
theorem dX1_support_33 : decode cX1_support 33 = .ok (.iand, 1) := by decide +kernel
theorem dX1_support_34 : decode cX1_support 34 = .ok (.ifCond .eq 42, 3) := by decide +kernel
theorem dX1_support_37 : decode cX1_support 37 = .ok (.iload_n 2, 1) := by decide +kernel
theorem dX1_support_38 : decode cX1_support 38 = .ok (.aload_n 0, 1) := by decide +kernel
theorem dX1_support_39 : decode cX1_support 39 = .ok (.getfield 53, 3) := by decide +kernel
theorem dX1_support_42 : decode cX1_support 42 = .ok (.aload_n 0, 1) := by decide +kernel
theorem dX1_support_43 : decode cX1_support 43 = .ok (.getfield 65, 3) := by decide +kernel
theorem dX1_support_46 : decode cX1_support 46 = .ok (.ior, 1) := by decide +kernel
theorem dX1_support_47 : decode cX1_support 47 = .ok (.iand, 1) := by decide +kernel
theorem dX1_support_48 : decode cX1_support 48 = .ok (.ifCond .eq 5, 3) := by decide +kernel
theorem dX1_support_51 : decode cX1_support 51 = .ok (.iconst 0, 1) := by decide +kernel
theorem dX1_support_52 : decode cX1_support 52 = .ok (.ireturn, 1) := by decide +kernel
theorem dX1_support_53 : decode cX1_support 53 = .ok (.iload_n 3, 1) := by decide +kernel
theorem dX1_support_54 : decode cX1_support 54 = .ok (.ifCond .ne 5, 3) := by decide +kernel
theorem dX1_support_57 : decode cX1_support 57 = .ok (.iconst 1, 1) := by decide +kernel
theorem dX1_support_58 : decode cX1_support 58 = .ok (.ireturn, 1) := by decide +kernel
theorem dX1_support_59 : decode cX1_support 59 = .ok (.aload_n 0, 1) := by decide +kernel
theorem dX1_support_60 : decode cX1_support 60 = .ok (.dup, 1) := by decide +kernel
theorem dX1_support_61 : decode cX1_support 61 = .ok (.getfield 56, 3) := by decide +kernel
theorem dX1_support_64 : decode cX1_support 64 = .ok (.iload_n 3, 1) := by decide +kernel
theorem dX1_support_65 : decode cX1_support 65 = .ok (.ior, 1) := by decide +kernel
theorem dX1_support_66 : decode cX1_support 66 = .ok (.putfield 56, 3) := by decide +kernel
theorem dX1_support_69 : decode cX1_support 69 = .ok (.aload_n 0, 1) := by decide +kernel
theorem dX1_support_70 : decode cX1_support 70 = .ok (.iconst 1, 1) := by decide +kernel
theorem dX1_support_71 : decode cX1_support 71 = .ok (.putfield 59, 3) := by decide +kernel
theorem dX1_support_74 : decode cX1_support 74 = .ok (.iconst 1, 1) := by decide +kernel
theorem dX1_support_75 : decode cX1_support 75 = .ok (.ireturn, 1) := by decide +kernel
theorem dX1_support_76 : decode cX1_support 76 = .ok (.iconst 0, 1) := by decide +kernel
theorem dX1_support_77 : decode cX1_support 77 = .ok (.istore 4, 2) := by decide +kernel
theorem dX1_support_79 : decode cX1_support 79 = .ok (.iconst 0, 1) := by decide +kernel
theorem dX1_support_80 : decode cX1_support 80 = .ok (.istore 5, 2) := by decide +kernel
theorem dX1_support_82 : decode cX1_support 82 = .ok (.aload_n 0, 1) := by decide +kernel
theorem dX1_support_83 : decode cX1_support 83 = .ok (.getfield 56, 3) := by decide +kernel
theorem dX1_support_86 : decode cX1_support 86 = .ok (.iload_n 1, 1) := by decide +kernel
theorem dX1_support_87 : decode cX1_support 87 = .ok (.ishr, 1) := by decide +kernel
theorem dX1_support_88 : decode cX1_support 88 = .ok (.iconst 1, 1) := by decide +kernel
theorem dX1_support_89 : decode cX1_support 89 = .ok (.iand, 1) := by decide +kernel
theorem dX1_support_90 : decode cX1_support 90 = .ok (.ifCond .eq 14, 3) := by decide +kernel
theorem dX1_support_93 : decode cX1_support 93 = .ok (.iload_n 2, 1) := by decide +kernel
theorem dX1_support_94 : decode cX1_support 94 = .ok (.aload_n 0, 1) := by decide +kernel
theorem dX1_support_95 : decode cX1_support 95 = .ok (.getfield 53, 3) := by decide +kernel
theorem dX1_support_98 : decode cX1_support 98 = .ok (.iand, 1) := by decide +kernel
theorem dX1_support_99 : decode cX1_support 99 = .ok (.istore 4, 2) := by decide +kernel
theorem dX1_support_101 : decode cX1_support 101 = .ok (.goto 30, 3) := by decide +kernel
theorem dX1_support_104 : decode cX1_support 104 = .ok (.aload_n 0, 1) := by decide +kernel
theorem dX1_support_105 : decode cX1_support 105 = .ok (.getfield 65, 3) := by decide +kernel
theorem dX1_support_108 : decode cX1_support 108 = .ok (.iload_n 1, 1) := by decide +kernel
theorem dX1_support_109 : decode cX1_support 109 = .ok (.ishr, 1) := by decide +kernel
theorem dX1_support_110 : decode cX1_support 110 = .ok (.iconst 1, 1) := by decide +kernel
theorem dX1_support_111 : decode cX1_support 111 = .ok (.iand, 1) := by decide +kernel
theorem dX1_support_112 : decode cX1_support 112 = .ok (.ifCond .eq 17, 3) := by decide +kernel
theorem dX1_support_115 : decode cX1_support 115 = .ok (.iload_n 2, 1) := by decide +kernel
theorem dX1_support_116 : decode cX1_support 116 = .ok (.aload_n 0, 1) := by decide +kernel
theorem dX1_support_117 : decode cX1_support 117 = .ok (.getfield 65, 3) := by decide +kernel
theorem dX1_support_120 : decode cX1_support 120 = .ok (.iand, 1) := by decide +kernel
theorem dX1_support_121 : decode cX1_support 121 = .ok (.istore 4, 2) := by decide +kernel
theorem dX1_support_123 : decode cX1_support 123 = .ok (.iconst 2, 1) := by decide +kernel
theorem dX1_support_124 : decode cX1_support 124 = .ok (.istore 5, 2) := by decide +kernel
theorem dX1_support_126 : decode cX1_support 126 = .ok (.goto 5, 3) := by decide +kernel
theorem dX1_support_129 : decode cX1_support 129 = .ok (.iconst 1, 1) := by decide +kernel
theorem dX1_support_130 : decode cX1_support 130 = .ok (.ireturn, 1) := by decide +kernel
theorem dX1_support_131 : decode cX1_support 131 = .ok (.iload 4, 2) := by decide +kernel
theorem dX1_support_133 : decode cX1_support 133 = .ok (.ifCond .eq 5, 3) := by decide +kernel
theorem dX1_support_136 : decode cX1_support 136 = .ok (.iconst 1, 1) := by decide +kernel
theorem dX1_support_137 : decode cX1_support 137 = .ok (.ireturn, 1) := by decide +kernel
theorem dX1_support_138 : decode cX1_support 138 = .ok (.iload_n 3, 1) := by decide +kernel
theorem dX1_support_139 : decode cX1_support 139 = .ok (.ifCond .ne 5, 3) := by decide +kernel
theorem dX1_support_142 : decode cX1_support 142 = .ok (.iconst 0, 1) := by decide +kernel
theorem dX1_support_143 : decode cX1_support 143 = .ok (.ireturn, 1) := by decide +kernel
theorem dX1_support_144 : decode cX1_support 144 = .ok (.iload_n 3, 1) := by decide +kernel
theorem dX1_support_145 : decode cX1_support 145 = .ok (.iload_n 3, 1) := by decide +kernel
theorem dX1_support_146 : decode cX1_support 146 = .ok (.iconst 1, 1) := by decide +kernel
theorem dX1_support_147 : decode cX1_support 147 = .ok (.isub, 1) := by decide +kernel
theorem dX1_support_148 : decode cX1_support 148 = .ok (.iand, 1) := by decide +kernel
theorem dX1_support_149 : decode cX1_support 149 = .ok (.ifCond .eq 5, 3) := by decide +kernel
theorem dX1_support_152 : decode cX1_support 152 = .ok (.iconst 1, 1) := by decide +kernel
theorem dX1_support_153 : decode cX1_support 153 = .ok (.ireturn, 1) := by decide +kernel
theorem dX1_support_154 : decode cX1_support 154 = .ok (.iconst 0, 1) := by decide +kernel
theorem dX1_support_155 : decode cX1_support 155 = .ok (.istore 6, 2) := by decide +kernel
theorem dX1_support_157 : decode cX1_support 157 = .ok (.iload 6, 2) := by decide +kernel
theorem dX1_support_159 : decode cX1_support 159 = .ok (.bipush 7, 2) := by decide +kernel
theorem dX1_support_161 : decode cX1_support 161 = .ok (.if_icmp .ge 18, 3) := by decide +kernel
theorem dX1_support_164 : decode cX1_support 164 = .ok (.iload_n 3, 1) := by decide +kernel
theorem dX1_support_165 : decode cX1_support 165 = .ok (.iload 6, 2) := by decide +kernel
theorem dX1_support_167 : decode cX1_support 167 = .ok (.ishr, 1) := by decide +kernel
theorem dX1_support_168 : decode cX1_support 168 = .ok (.iconst 1, 1) := by decide +kernel
theorem dX1_support_169 : decode cX1_support 169 = .ok (.iand, 1) := by decide +kernel
theorem dX1_support_170 : decode cX1_support 170 = .ok (.ifCond .ne 9, 3) := by decide +kernel
theorem dX1_support_173 : decode cX1_support 173 = .ok (.iinc 6 1, 3) := by decide +kernel
theorem dX1_support_176 : decode cX1_support 176 = .ok (.goto (-19), 3) := by decide +kernel
theorem dX1_support_179 : decode cX1_support 179 = .ok (.aload_n 0, 1) := by decide +kernel
theorem dX1_support_180 : decode cX1_support 180 = .ok (.iload 6, 2) := by decide +kernel
theorem dX1_support_182 : decode cX1_support 182 = .ok (.iload 5, 2) := by decide +kernel
theorem dX1_support_184 : decode cX1_support 184 = .ok (.invokevirtual 76, 3) := by decide +kernel
theorem dX1_support_187 : decode cX1_support 187 = .ok (.iconst 1, 1) := by decide +kernel
theorem dX1_support_188 : decode cX1_support 188 = .ok (.ireturn, 1) := by decide +kernel
abbrev cX1_branch : ByteArray := prog_1_method_13_code
def yX1_branch : MethodName := ⟨RX1, "branch", "(I)I"⟩
theorem dX1_branch_0 : decode cX1_branch 0 = .ok (.aload_n 0, 1) := by decide +kernel
theorem dX1_branch_1 : decode cX1_branch 1 = .ok (.getfield 42, 3) := by decide +kernel
theorem dX1_branch_4 : decode cX1_branch 4 = .ok (.aload_n 0, 1) := by decide +kernel
theorem dX1_branch_5 : decode cX1_branch 5 = .ok (.getfield 53, 3) := by decide +kernel
theorem dX1_branch_8 : decode cX1_branch 8 = .ok (.aload_n 0, 1) := by decide +kernel
theorem dX1_branch_9 : decode cX1_branch 9 = .ok (.getfield 56, 3) := by decide +kernel
theorem dX1_branch_12 : decode cX1_branch 12 = .ok (.ior, 1) := by decide +kernel
theorem dX1_branch_13 : decode cX1_branch 13 = .ok (.aload_n 0, 1) := by decide +kernel
theorem dX1_branch_14 : decode cX1_branch 14 = .ok (.getfield 65, 3) := by decide +kernel
theorem dX1_branch_17 : decode cX1_branch 17 = .ok (.ior, 1) := by decide +kernel
theorem dX1_branch_18 : decode cX1_branch 18 = .ok (.iconst (-1), 1) := by decide +kernel
theorem dX1_branch_19 : decode cX1_branch 19 = .ok (.ixor, 1) := by decide +kernel
theorem dX1_branch_20 : decode cX1_branch 20 = .ok (.iand, 1) := by decide +kernel
theorem dX1_branch_21 : decode cX1_branch 21 = .ok (.istore_n 2, 1) := by decide +kernel
theorem dX1_branch_22 : decode cX1_branch 22 = .ok (.iload_n 2, 1) := by decide +kernel
theorem dX1_branch_23 : decode cX1_branch 23 = .ok (.ifCond .ne 33, 3) := by decide +kernel
theorem dX1_branch_26 : decode cX1_branch 26 = .ok (.aload_n 0, 1) := by decide +kernel
theorem dX1_branch_27 : decode cX1_branch 27 = .ok (.getfield 32, 3) := by decide +kernel
theorem dX1_branch_30 : decode cX1_branch 30 = .ok (.aload_n 0, 1) := by decide +kernel
theorem dX1_branch_31 : decode cX1_branch 31 = .ok (.getfield 53, 3) := by decide +kernel
theorem dX1_branch_34 : decode cX1_branch 34 = .ok (.iconst 1, 1) := by decide +kernel
theorem dX1_branch_35 : decode cX1_branch 35 = .ok (.bastore, 1) := by decide +kernel
theorem dX1_branch_36 : decode cX1_branch 36 = .ok (.aload_n 0, 1) := by decide +kernel
theorem dX1_branch_37 : decode cX1_branch 37 = .ok (.getfield 35, 3) := by decide +kernel
theorem dX1_branch_40 : decode cX1_branch 40 = .ok (.aload_n 0, 1) := by decide +kernel
theorem dX1_branch_41 : decode cX1_branch 41 = .ok (.getfield 53, 3) := by decide +kernel
theorem dX1_branch_44 : decode cX1_branch 44 = .ok (.aload_n 0, 1) := by decide +kernel
theorem dX1_branch_45 : decode cX1_branch 45 = .ok (.getfield 53, 3) := by decide +kernel
theorem dX1_branch_48 : decode cX1_branch 48 = .ok (.aload_n 0, 1) := by decide +kernel
theorem dX1_branch_49 : decode cX1_branch 49 = .ok (.getfield 56, 3) := by decide +kernel
theorem dX1_branch_52 : decode cX1_branch 52 = .ok (.ior, 1) := by decide +kernel
theorem dX1_branch_53 : decode cX1_branch 53 = .ok (.iastore, 1) := by decide +kernel
theorem dX1_branch_54 : decode cX1_branch 54 = .ok (.iload_n 1, 1) := by decide +kernel
theorem dX1_branch_55 : decode cX1_branch 55 = .ok (.ireturn, 1) := by decide +kernel
theorem dX1_branch_56 : decode cX1_branch 56 = .ok (.iconst 0, 1) := by decide +kernel
theorem dX1_branch_57 : decode cX1_branch 57 = .ok (.istore_n 3, 1) := by decide +kernel
theorem dX1_branch_58 : decode cX1_branch 58 = .ok (.iload_n 3, 1) := by decide +kernel
theorem dX1_branch_59 : decode cX1_branch 59 = .ok (.bipush 7, 2) := by decide +kernel
theorem dX1_branch_61 : decode cX1_branch 61 = .ok (.if_icmp .ge 17, 3) := by decide +kernel
theorem dX1_branch_64 : decode cX1_branch 64 = .ok (.iload_n 2, 1) := by decide +kernel
theorem dX1_branch_65 : decode cX1_branch 65 = .ok (.iload_n 3, 1) := by decide +kernel
theorem dX1_branch_66 : decode cX1_branch 66 = .ok (.ishr, 1) := by decide +kernel
theorem dX1_branch_67 : decode cX1_branch 67 = .ok (.iconst 1, 1) := by decide +kernel
theorem dX1_branch_68 : decode cX1_branch 68 = .ok (.iand, 1) := by decide +kernel
theorem dX1_branch_69 : decode cX1_branch 69 = .ok (.ifCond .ne 9, 3) := by decide +kernel
theorem dX1_branch_72 : decode cX1_branch 72 = .ok (.iinc 3 1, 3) := by decide +kernel
theorem dX1_branch_75 : decode cX1_branch 75 = .ok (.goto (-17), 3) := by decide +kernel
theorem dX1_branch_78 : decode cX1_branch 78 = .ok (.iload_n 1, 1) := by decide +kernel
theorem dX1_branch_79 : decode cX1_branch 79 = .ok (.iconst 1, 1) := by decide +kernel
theorem dX1_branch_80 : decode cX1_branch 80 = .ok (.iadd, 1) := by decide +kernel
theorem dX1_branch_81 : decode cX1_branch 81 = .ok (.istore 4, 2) := by decide +kernel
theorem dX1_branch_83 : decode cX1_branch 83 = .ok (.aload_n 0, 1) := by decide +kernel
theorem dX1_branch_84 : decode cX1_branch 84 = .ok (.getfield 25, 3) := by decide +kernel
theorem dX1_branch_87 : decode cX1_branch 87 = .ok (.iload 4, 2) := by decide +kernel
theorem dX1_branch_89 : decode cX1_branch 89 = .ok (.iload_n 3, 1) := by decide +kernel
theorem dX1_branch_90 : decode cX1_branch 90 = .ok (.i2b, 1) := by decide +kernel
theorem dX1_branch_91 : decode cX1_branch 91 = .ok (.bastore, 1) := by decide +kernel
theorem dX1_branch_92 : decode cX1_branch 92 = .ok (.aload_n 0, 1) := by decide +kernel
theorem dX1_branch_93 : decode cX1_branch 93 = .ok (.getfield 29, 3) := by decide +kernel
theorem dX1_branch_96 : decode cX1_branch 96 = .ok (.iload 4, 2) := by decide +kernel
theorem dX1_branch_98 : decode cX1_branch 98 = .ok (.iconst 0, 1) := by decide +kernel
theorem dX1_branch_99 : decode cX1_branch 99 = .ok (.bastore, 1) := by decide +kernel
theorem dX1_branch_100 : decode cX1_branch 100 = .ok (.aload_n 0, 1) := by decide +kernel
theorem dX1_branch_101 : decode cX1_branch 101 = .ok (.getfield 16, 3) := by decide +kernel
theorem dX1_branch_104 : decode cX1_branch 104 = .ok (.iload 4, 2) := by decide +kernel
theorem dX1_branch_106 : decode cX1_branch 106 = .ok (.aload_n 0, 1) := by decide +kernel
theorem dX1_branch_107 : decode cX1_branch 107 = .ok (.getfield 53, 3) := by decide +kernel
theorem dX1_branch_110 : decode cX1_branch 110 = .ok (.iastore, 1) := by decide +kernel
theorem dX1_branch_111 : decode cX1_branch 111 = .ok (.aload_n 0, 1) := by decide +kernel
theorem dX1_branch_112 : decode cX1_branch 112 = .ok (.getfield 19, 3) := by decide +kernel
theorem dX1_branch_115 : decode cX1_branch 115 = .ok (.iload 4, 2) := by decide +kernel
theorem dX1_branch_117 : decode cX1_branch 117 = .ok (.aload_n 0, 1) := by decide +kernel
theorem dX1_branch_118 : decode cX1_branch 118 = .ok (.getfield 56, 3) := by decide +kernel
theorem dX1_branch_121 : decode cX1_branch 121 = .ok (.iastore, 1) := by decide +kernel
theorem dX1_branch_122 : decode cX1_branch 122 = .ok (.aload_n 0, 1) := by decide +kernel
theorem dX1_branch_123 : decode cX1_branch 123 = .ok (.getfield 22, 3) := by decide +kernel
theorem dX1_branch_126 : decode cX1_branch 126 = .ok (.iload 4, 2) := by decide +kernel
theorem dX1_branch_128 : decode cX1_branch 128 = .ok (.aload_n 0, 1) := by decide +kernel
theorem dX1_branch_129 : decode cX1_branch 129 = .ok (.getfield 65, 3) := by decide +kernel
theorem dX1_branch_132 : decode cX1_branch 132 = .ok (.iastore, 1) := by decide +kernel
theorem dX1_branch_133 : decode cX1_branch 133 = .ok (.iload 4, 2) := by decide +kernel
theorem dX1_branch_135 : decode cX1_branch 135 = .ok (.ireturn, 1) := by decide +kernel
end
section
set_option maxRecDepth 100000
abbrev cX1_compare : ByteArray := prog_1_method_18_code
def yX1_compare : MethodName := ⟨RX1, "compare", "()V"⟩
theorem dX1_compare_0 : decode cX1_compare 0 = .ok (.iconst 0, 1) := by decide +kernel
theorem dX1_compare_1 : decode cX1_compare 1 = .ok (.istore_n 1, 1) := by decide +kernel
theorem dX1_compare_2 : decode cX1_compare 2 = .ok (.iload_n 1, 1) := by decide +kernel
theorem dX1_compare_3 : decode cX1_compare 3 = .ok (.sipush 256, 3) := by decide +kernel
theorem dX1_compare_6 : decode cX1_compare 6 = .ok (.if_icmp .ge 166, 3) := by decide +kernel
theorem dX1_compare_9 : decode cX1_compare 9 = .ok (.aload_n 0, 1) := by decide +kernel
theorem dX1_compare_10 : decode cX1_compare 10 = .ok (.getfield 32, 3) := by decide +kernel
theorem dX1_compare_13 : decode cX1_compare 13 = .ok (.iload_n 1, 1) := by decide +kernel
theorem dX1_compare_14 : decode cX1_compare 14 = .ok (.baload, 1) := by decide +kernel
theorem dX1_compare_15 : decode cX1_compare 15 = .ok (.ifCond .ne 6, 3) := by decide +kernel
theorem dX1_compare_18 : decode cX1_compare 18 = .ok (.goto 148, 3) := by decide +kernel
theorem dX1_compare_21 : decode cX1_compare 21 = .ok (.iconst 1, 1) := by decide +kernel
theorem dX1_compare_22 : decode cX1_compare 22 = .ok (.istore_n 2, 1) := by decide +kernel
theorem dX1_compare_23 : decode cX1_compare 23 = .ok (.iconst 1, 1) := by decide +kernel
theorem dX1_compare_24 : decode cX1_compare 24 = .ok (.istore_n 3, 1) := by decide +kernel
theorem dX1_compare_25 : decode cX1_compare 25 = .ok (.iconst 0, 1) := by decide +kernel
theorem dX1_compare_26 : decode cX1_compare 26 = .ok (.istore 4, 2) := by decide +kernel
theorem dX1_compare_28 : decode cX1_compare 28 = .ok (.iload 4, 2) := by decide +kernel
theorem dX1_compare_30 : decode cX1_compare 30 = .ok (.sipush 256, 3) := by decide +kernel
theorem dX1_compare_33 : decode cX1_compare 33 = .ok (.if_icmp .ge 76, 3) := by decide +kernel
theorem dX1_compare_36 : decode cX1_compare 36 = .ok (.aload_n 0, 1) := by decide +kernel
theorem dX1_compare_37 : decode cX1_compare 37 = .ok (.getfield 32, 3) := by decide +kernel
theorem dX1_compare_40 : decode cX1_compare 40 = .ok (.iload 4, 2) := by decide +kernel
theorem dX1_compare_42 : decode cX1_compare 42 = .ok (.baload, 1) := by decide +kernel
theorem dX1_compare_43 : decode cX1_compare 43 = .ok (.ifCond .ne 6, 3) := by decide +kernel
theorem dX1_compare_46 : decode cX1_compare 46 = .ok (.goto 57, 3) := by decide +kernel
theorem dX1_compare_49 : decode cX1_compare 49 = .ok (.iload 4, 2) := by decide +kernel
theorem dX1_compare_51 : decode cX1_compare 51 = .ok (.iload_n 1, 1) := by decide +kernel
theorem dX1_compare_52 : decode cX1_compare 52 = .ok (.if_icmp .eq 14, 3) := by decide +kernel
theorem dX1_compare_55 : decode cX1_compare 55 = .ok (.iload_n 1, 1) := by decide +kernel
theorem dX1_compare_56 : decode cX1_compare 56 = .ok (.iload 4, 2) := by decide +kernel
theorem dX1_compare_58 : decode cX1_compare 58 = .ok (.iconst (-1), 1) := by decide +kernel
theorem dX1_compare_59 : decode cX1_compare 59 = .ok (.ixor, 1) := by decide +kernel
theorem dX1_compare_60 : decode cX1_compare 60 = .ok (.iand, 1) := by decide +kernel
theorem dX1_compare_61 : decode cX1_compare 61 = .ok (.ifCond .ne 5, 3) := by decide +kernel
theorem dX1_compare_64 : decode cX1_compare 64 = .ok (.iconst 0, 1) := by decide +kernel
theorem dX1_compare_65 : decode cX1_compare 65 = .ok (.istore_n 2, 1) := by decide +kernel
theorem dX1_compare_66 : decode cX1_compare 66 = .ok (.aload_n 0, 1) := by decide +kernel
theorem dX1_compare_67 : decode cX1_compare 67 = .ok (.getfield 35, 3) := by decide +kernel
theorem dX1_compare_70 : decode cX1_compare 70 = .ok (.iload 4, 2) := by decide +kernel
theorem dX1_compare_72 : decode cX1_compare 72 = .ok (.iaload, 1) := by decide +kernel
theorem dX1_compare_73 : decode cX1_compare 73 = .ok (.aload_n 0, 1) := by decide +kernel
theorem dX1_compare_74 : decode cX1_compare 74 = .ok (.getfield 35, 3) := by decide +kernel
theorem dX1_compare_77 : decode cX1_compare 77 = .ok (.iload_n 1, 1) := by decide +kernel
theorem dX1_compare_78 : decode cX1_compare 78 = .ok (.iaload, 1) := by decide +kernel
theorem dX1_compare_79 : decode cX1_compare 79 = .ok (.if_icmp .eq 24, 3) := by decide +kernel
theorem dX1_compare_82 : decode cX1_compare 82 = .ok (.aload_n 0, 1) := by decide +kernel
theorem dX1_compare_83 : decode cX1_compare 83 = .ok (.getfield 35, 3) := by decide +kernel
theorem dX1_compare_86 : decode cX1_compare 86 = .ok (.iload_n 1, 1) := by decide +kernel
theorem dX1_compare_87 : decode cX1_compare 87 = .ok (.iaload, 1) := by decide +kernel
theorem dX1_compare_88 : decode cX1_compare 88 = .ok (.aload_n 0, 1) := by decide +kernel
theorem dX1_compare_89 : decode cX1_compare 89 = .ok (.getfield 35, 3) := by decide +kernel
theorem dX1_compare_92 : decode cX1_compare 92 = .ok (.iload 4, 2) := by decide +kernel
theorem dX1_compare_94 : decode cX1_compare 94 = .ok (.iaload, 1) := by decide +kernel
theorem dX1_compare_95 : decode cX1_compare 95 = .ok (.iconst (-1), 1) := by decide +kernel
theorem dX1_compare_96 : decode cX1_compare 96 = .ok (.ixor, 1) := by decide +kernel
theorem dX1_compare_97 : decode cX1_compare 97 = .ok (.iand, 1) := by decide +kernel
theorem dX1_compare_98 : decode cX1_compare 98 = .ok (.ifCond .ne 5, 3) := by decide +kernel
theorem dX1_compare_101 : decode cX1_compare 101 = .ok (.iconst 0, 1) := by decide +kernel
theorem dX1_compare_102 : decode cX1_compare 102 = .ok (.istore_n 3, 1) := by decide +kernel
theorem dX1_compare_103 : decode cX1_compare 103 = .ok (.iinc 4 1, 3) := by decide +kernel
theorem dX1_compare_106 : decode cX1_compare 106 = .ok (.goto (-78), 3) := by decide +kernel
theorem dX1_compare_109 : decode cX1_compare 109 = .ok (.aload_n 0, 1) := by decide +kernel
theorem dX1_compare_110 : decode cX1_compare 110 = .ok (.getfield 32, 3) := by decide +kernel
theorem dX1_compare_113 : decode cX1_compare 113 = .ok (.iload_n 1, 1) := by decide +kernel
theorem dX1_compare_114 : decode cX1_compare 114 = .ok (.baload, 1) := by decide +kernel
theorem dX1_compare_115 : decode cX1_compare 115 = .ok (.istore 4, 2) := by decide +kernel
theorem dX1_compare_117 : decode cX1_compare 117 = .ok (.iload_n 2, 1) := by decide +kernel
theorem dX1_compare_118 : decode cX1_compare 118 = .ok (.ifCond .eq 9, 3) := by decide +kernel
theorem dX1_compare_121 : decode cX1_compare 121 = .ok (.iload 4, 2) := by decide +kernel
theorem dX1_compare_123 : decode cX1_compare 123 = .ok (.iconst 2, 1) := by decide +kernel
theorem dX1_compare_124 : decode cX1_compare 124 = .ok (.ior, 1) := by decide +kernel
theorem dX1_compare_125 : decode cX1_compare 125 = .ok (.istore 4, 2) := by decide +kernel
theorem dX1_compare_127 : decode cX1_compare 127 = .ok (.aload_n 0, 1) := by decide +kernel
theorem dX1_compare_128 : decode cX1_compare 128 = .ok (.getfield 35, 3) := by decide +kernel
theorem dX1_compare_131 : decode cX1_compare 131 = .ok (.iload_n 1, 1) := by decide +kernel
theorem dX1_compare_132 : decode cX1_compare 132 = .ok (.iaload, 1) := by decide +kernel
theorem dX1_compare_133 : decode cX1_compare 133 = .ok (.aload_n 0, 1) := by decide +kernel
theorem dX1_compare_134 : decode cX1_compare 134 = .ok (.getfield 42, 3) := by decide +kernel
theorem dX1_compare_137 : decode cX1_compare 137 = .ok (.if_icmp .ne 9, 3) := by decide +kernel
theorem dX1_compare_140 : decode cX1_compare 140 = .ok (.iload 4, 2) := by decide +kernel
theorem dX1_compare_142 : decode cX1_compare 142 = .ok (.iconst 4, 1) := by decide +kernel
theorem dX1_compare_143 : decode cX1_compare 143 = .ok (.ior, 1) := by decide +kernel
theorem dX1_compare_144 : decode cX1_compare 144 = .ok (.istore 4, 2) := by decide +kernel
theorem dX1_compare_146 : decode cX1_compare 146 = .ok (.iload_n 3, 1) := by decide +kernel
theorem dX1_compare_147 : decode cX1_compare 147 = .ok (.ifCond .eq 10, 3) := by decide +kernel
theorem dX1_compare_150 : decode cX1_compare 150 = .ok (.iload 4, 2) := by decide +kernel
theorem dX1_compare_152 : decode cX1_compare 152 = .ok (.bipush 8, 2) := by decide +kernel
theorem dX1_compare_154 : decode cX1_compare 154 = .ok (.ior, 1) := by decide +kernel
theorem dX1_compare_155 : decode cX1_compare 155 = .ok (.istore 4, 2) := by decide +kernel
theorem dX1_compare_157 : decode cX1_compare 157 = .ok (.aload_n 0, 1) := by decide +kernel
theorem dX1_compare_158 : decode cX1_compare 158 = .ok (.getfield 32, 3) := by decide +kernel
theorem dX1_compare_161 : decode cX1_compare 161 = .ok (.iload_n 1, 1) := by decide +kernel
theorem dX1_compare_162 : decode cX1_compare 162 = .ok (.iload 4, 2) := by decide +kernel
theorem dX1_compare_164 : decode cX1_compare 164 = .ok (.i2b, 1) := by decide +kernel
theorem dX1_compare_165 : decode cX1_compare 165 = .ok (.bastore, 1) := by decide +kernel
theorem dX1_compare_166 : decode cX1_compare 166 = .ok (.iinc 1 1, 3) := by decide +kernel
theorem dX1_compare_169 : decode cX1_compare 169 = .ok (.goto (-167), 3) := by decide +kernel
theorem dX1_compare_172 : decode cX1_compare 172 = .ok (.return_, 1) := by decide +kernel
abbrev cX1_extension : ByteArray := prog_1_method_7_code
def yX1_extension : MethodName := ⟨RX1, "extension", "(II)I"⟩
theorem dX1_extension_0 : decode cX1_extension 0 = .ok (.iload_n 1, 1) := by decide +kernel
theorem dX1_extension_1 : decode cX1_extension 1 = .ok (.ifCond .lt 8, 3) := by decide +kernel
theorem dX1_extension_4 : decode cX1_extension 4 = .ok (.iload_n 1, 1) := by decide +kernel
theorem dX1_extension_5 : decode cX1_extension 5 = .ok (.iconst 3, 1) := by decide +kernel
theorem dX1_extension_6 : decode cX1_extension 6 = .ok (.if_icmp .le 5, 3) := by decide +kernel
theorem dX1_extension_9 : decode cX1_extension 9 = .ok (.iconst (-1), 1) := by decide +kernel
theorem dX1_extension_10 : decode cX1_extension 10 = .ok (.ireturn, 1) := by decide +kernel
theorem dX1_extension_11 : decode cX1_extension 11 = .ok (.aload_n 0, 1) := by decide +kernel
theorem dX1_extension_12 : decode cX1_extension 12 = .ok (.invokevirtual 62, 3) := by decide +kernel
theorem dX1_extension_15 : decode cX1_extension 15 = .ok (.iload_n 2, 1) := by decide +kernel
theorem dX1_extension_16 : decode cX1_extension 16 = .ok (.istore_n 3, 1) := by decide +kernel
theorem dX1_extension_17 : decode cX1_extension 17 = .ok (.iconst 0, 1) := by decide +kernel
theorem dX1_extension_18 : decode cX1_extension 18 = .ok (.istore 4, 2) := by decide +kernel
theorem dX1_extension_20 : decode cX1_extension 20 = .ok (.iload 4, 2) := by decide +kernel
theorem dX1_extension_22 : decode cX1_extension 22 = .ok (.sipush 256, 3) := by decide +kernel
theorem dX1_extension_25 : decode cX1_extension 25 = .ok (.if_icmp .ge 36, 3) := by decide +kernel
theorem dX1_extension_28 : decode cX1_extension 28 = .ok (.aload_n 0, 1) := by decide +kernel
theorem dX1_extension_29 : decode cX1_extension 29 = .ok (.getfield 32, 3) := by decide +kernel
theorem dX1_extension_32 : decode cX1_extension 32 = .ok (.iload 4, 2) := by decide +kernel
theorem dX1_extension_34 : decode cX1_extension 34 = .ok (.baload, 1) := by decide +kernel
theorem dX1_extension_35 : decode cX1_extension 35 = .ok (.iload_n 1, 1) := by decide +kernel
theorem dX1_extension_36 : decode cX1_extension 36 = .ok (.ishr, 1) := by decide +kernel
theorem dX1_extension_37 : decode cX1_extension 37 = .ok (.iconst 1, 1) := by decide +kernel
theorem dX1_extension_38 : decode cX1_extension 38 = .ok (.iand, 1) := by decide +kernel
theorem dX1_extension_39 : decode cX1_extension 39 = .ok (.ifCond .ne 6, 3) := by decide +kernel
theorem dX1_extension_42 : decode cX1_extension 42 = .ok (.goto 13, 3) := by decide +kernel
theorem dX1_extension_45 : decode cX1_extension 45 = .ok (.iload_n 3, 1) := by decide +kernel
theorem dX1_extension_46 : decode cX1_extension 46 = .ok (.ifCond .ne 6, 3) := by decide +kernel
theorem dX1_extension_49 : decode cX1_extension 49 = .ok (.iload 4, 2) := by decide +kernel
theorem dX1_extension_51 : decode cX1_extension 51 = .ok (.ireturn, 1) := by decide +kernel
theorem dX1_extension_52 : decode cX1_extension 52 = .ok (.iinc 3 (-1), 3) := by decide +kernel
theorem dX1_extension_55 : decode cX1_extension 55 = .ok (.iinc 4 1, 3) := by decide +kernel
theorem dX1_extension_58 : decode cX1_extension 58 = .ok (.goto (-38), 3) := by decide +kernel
theorem dX1_extension_61 : decode cX1_extension 61 = .ok (.bipush (-2), 2) := by decide +kernel
theorem dX1_extension_63 : decode cX1_extension 63 = .ok (.ireturn, 1) := by decide +kernel
abbrev cX1_inSome : ByteArray := prog_1_method_8_code
def yX1_inSome : MethodName := ⟨RX1, "inSome", "(I)I"⟩
theorem dX1_inSome_0 : decode cX1_inSome 0 = .ok (.iload_n 1, 1) := by decide +kernel
theorem dX1_inSome_1 : decode cX1_inSome 1 = .ok (.ifCond .lt 8, 3) := by decide +kernel
theorem dX1_inSome_4 : decode cX1_inSome 4 = .ok (.iload_n 1, 1) := by decide +kernel
theorem dX1_inSome_5 : decode cX1_inSome 5 = .ok (.iconst 3, 1) := by decide +kernel
theorem dX1_inSome_6 : decode cX1_inSome 6 = .ok (.if_icmp .le 5, 3) := by decide +kernel
theorem dX1_inSome_9 : decode cX1_inSome 9 = .ok (.iconst (-1), 1) := by decide +kernel
theorem dX1_inSome_10 : decode cX1_inSome 10 = .ok (.ireturn, 1) := by decide +kernel
theorem dX1_inSome_11 : decode cX1_inSome 11 = .ok (.aload_n 0, 1) := by decide +kernel
theorem dX1_inSome_12 : decode cX1_inSome 12 = .ok (.invokevirtual 62, 3) := by decide +kernel
theorem dX1_inSome_15 : decode cX1_inSome 15 = .ok (.iconst 0, 1) := by decide +kernel
theorem dX1_inSome_16 : decode cX1_inSome 16 = .ok (.istore_n 2, 1) := by decide +kernel
theorem dX1_inSome_17 : decode cX1_inSome 17 = .ok (.iconst 0, 1) := by decide +kernel
theorem dX1_inSome_18 : decode cX1_inSome 18 = .ok (.istore_n 3, 1) := by decide +kernel
theorem dX1_inSome_19 : decode cX1_inSome 19 = .ok (.iload_n 3, 1) := by decide +kernel
theorem dX1_inSome_20 : decode cX1_inSome 20 = .ok (.sipush 256, 3) := by decide +kernel
theorem dX1_inSome_23 : decode cX1_inSome 23 = .ok (.if_icmp .ge 26, 3) := by decide +kernel
theorem dX1_inSome_26 : decode cX1_inSome 26 = .ok (.aload_n 0, 1) := by decide +kernel
theorem dX1_inSome_27 : decode cX1_inSome 27 = .ok (.getfield 32, 3) := by decide +kernel
theorem dX1_inSome_30 : decode cX1_inSome 30 = .ok (.iload_n 3, 1) := by decide +kernel
theorem dX1_inSome_31 : decode cX1_inSome 31 = .ok (.baload, 1) := by decide +kernel
theorem dX1_inSome_32 : decode cX1_inSome 32 = .ok (.iload_n 1, 1) := by decide +kernel
theorem dX1_inSome_33 : decode cX1_inSome 33 = .ok (.ishr, 1) := by decide +kernel
theorem dX1_inSome_34 : decode cX1_inSome 34 = .ok (.iconst 1, 1) := by decide +kernel
theorem dX1_inSome_35 : decode cX1_inSome 35 = .ok (.iand, 1) := by decide +kernel
theorem dX1_inSome_36 : decode cX1_inSome 36 = .ok (.ifCond .eq 7, 3) := by decide +kernel
theorem dX1_inSome_39 : decode cX1_inSome 39 = .ok (.iload_n 2, 1) := by decide +kernel
theorem dX1_inSome_40 : decode cX1_inSome 40 = .ok (.iload_n 3, 1) := by decide +kernel
theorem dX1_inSome_41 : decode cX1_inSome 41 = .ok (.ior, 1) := by decide +kernel
theorem dX1_inSome_42 : decode cX1_inSome 42 = .ok (.istore_n 2, 1) := by decide +kernel
theorem dX1_inSome_43 : decode cX1_inSome 43 = .ok (.iinc 3 1, 3) := by decide +kernel
theorem dX1_inSome_46 : decode cX1_inSome 46 = .ok (.goto (-27), 3) := by decide +kernel
theorem dX1_inSome_49 : decode cX1_inSome 49 = .ok (.iload_n 2, 1) := by decide +kernel
theorem dX1_inSome_50 : decode cX1_inSome 50 = .ok (.ireturn, 1) := by decide +kernel
abbrev cX1_inEvery : ByteArray := prog_1_method_9_code
def yX1_inEvery : MethodName := ⟨RX1, "inEvery", "(I)I"⟩
theorem dX1_inEvery_0 : decode cX1_inEvery 0 = .ok (.iload_n 1, 1) := by decide +kernel
theorem dX1_inEvery_1 : decode cX1_inEvery 1 = .ok (.ifCond .lt 8, 3) := by decide +kernel
theorem dX1_inEvery_4 : decode cX1_inEvery 4 = .ok (.iload_n 1, 1) := by decide +kernel
theorem dX1_inEvery_5 : decode cX1_inEvery 5 = .ok (.iconst 3, 1) := by decide +kernel
theorem dX1_inEvery_6 : decode cX1_inEvery 6 = .ok (.if_icmp .le 5, 3) := by decide +kernel
theorem dX1_inEvery_9 : decode cX1_inEvery 9 = .ok (.iconst (-1), 1) := by decide +kernel
theorem dX1_inEvery_10 : decode cX1_inEvery 10 = .ok (.ireturn, 1) := by decide +kernel
theorem dX1_inEvery_11 : decode cX1_inEvery 11 = .ok (.aload_n 0, 1) := by decide +kernel
theorem dX1_inEvery_12 : decode cX1_inEvery 12 = .ok (.invokevirtual 62, 3) := by decide +kernel
theorem dX1_inEvery_15 : decode cX1_inEvery 15 = .ok (.aload_n 0, 1) := by decide +kernel
theorem dX1_inEvery_16 : decode cX1_inEvery 16 = .ok (.getfield 42, 3) := by decide +kernel
theorem dX1_inEvery_19 : decode cX1_inEvery 19 = .ok (.istore_n 2, 1) := by decide +kernel
theorem dX1_inEvery_20 : decode cX1_inEvery 20 = .ok (.iconst 0, 1) := by decide +kernel
theorem dX1_inEvery_21 : decode cX1_inEvery 21 = .ok (.istore_n 3, 1) := by decide +kernel
theorem dX1_inEvery_22 : decode cX1_inEvery 22 = .ok (.iload_n 3, 1) := by decide +kernel
theorem dX1_inEvery_23 : decode cX1_inEvery 23 = .ok (.sipush 256, 3) := by decide +kernel
theorem dX1_inEvery_26 : decode cX1_inEvery 26 = .ok (.if_icmp .ge 26, 3) := by decide +kernel
theorem dX1_inEvery_29 : decode cX1_inEvery 29 = .ok (.aload_n 0, 1) := by decide +kernel
theorem dX1_inEvery_30 : decode cX1_inEvery 30 = .ok (.getfield 32, 3) := by decide +kernel
theorem dX1_inEvery_33 : decode cX1_inEvery 33 = .ok (.iload_n 3, 1) := by decide +kernel
theorem dX1_inEvery_34 : decode cX1_inEvery 34 = .ok (.baload, 1) := by decide +kernel
theorem dX1_inEvery_35 : decode cX1_inEvery 35 = .ok (.iload_n 1, 1) := by decide +kernel
theorem dX1_inEvery_36 : decode cX1_inEvery 36 = .ok (.ishr, 1) := by decide +kernel
theorem dX1_inEvery_37 : decode cX1_inEvery 37 = .ok (.iconst 1, 1) := by decide +kernel
theorem dX1_inEvery_38 : decode cX1_inEvery 38 = .ok (.iand, 1) := by decide +kernel
theorem dX1_inEvery_39 : decode cX1_inEvery 39 = .ok (.ifCond .eq 7, 3) := by decide +kernel
theorem dX1_inEvery_42 : decode cX1_inEvery 42 = .ok (.iload_n 2, 1) := by decide +kernel
theorem dX1_inEvery_43 : decode cX1_inEvery 43 = .ok (.iload_n 3, 1) := by decide +kernel
theorem dX1_inEvery_44 : decode cX1_inEvery 44 = .ok (.iand, 1) := by decide +kernel
theorem dX1_inEvery_45 : decode cX1_inEvery 45 = .ok (.istore_n 2, 1) := by decide +kernel
theorem dX1_inEvery_46 : decode cX1_inEvery 46 = .ok (.iinc 3 1, 3) := by decide +kernel
theorem dX1_inEvery_49 : decode cX1_inEvery 49 = .ok (.goto (-27), 3) := by decide +kernel
theorem dX1_inEvery_52 : decode cX1_inEvery 52 = .ok (.iload_n 2, 1) := by decide +kernel
theorem dX1_inEvery_53 : decode cX1_inEvery 53 = .ok (.ireturn, 1) := by decide +kernel
abbrev cX1_clear : ByteArray := prog_1_method_10_code
def yX1_clear : MethodName := ⟨RX1, "clear", "()I"⟩
theorem dX1_clear_0 : decode cX1_clear 0 = .ok (.iconst 0, 1) := by decide +kernel
theorem dX1_clear_1 : decode cX1_clear 1 = .ok (.istore_n 1, 1) := by decide +kernel
theorem dX1_clear_2 : decode cX1_clear 2 = .ok (.iconst 0, 1) := by decide +kernel
theorem dX1_clear_3 : decode cX1_clear 3 = .ok (.istore_n 2, 1) := by decide +kernel
theorem dX1_clear_4 : decode cX1_clear 4 = .ok (.iload_n 2, 1) := by decide +kernel
theorem dX1_clear_5 : decode cX1_clear 5 = .ok (.aload_n 0, 1) := by decide +kernel
theorem dX1_clear_6 : decode cX1_clear 6 = .ok (.getfield 38, 3) := by decide +kernel
theorem dX1_clear_9 : decode cX1_clear 9 = .ok (.if_icmp .ge 52, 3) := by decide +kernel
theorem dX1_clear_12 : decode cX1_clear 12 = .ok (.iconst 0, 1) := by decide +kernel
theorem dX1_clear_13 : decode cX1_clear 13 = .ok (.istore_n 3, 1) := by decide +kernel
theorem dX1_clear_14 : decode cX1_clear 14 = .ok (.iload_n 3, 1) := by decide +kernel
theorem dX1_clear_15 : decode cX1_clear 15 = .ok (.aload_n 0, 1) := by decide +kernel
theorem dX1_clear_16 : decode cX1_clear 16 = .ok (.getfield 38, 3) := by decide +kernel
theorem dX1_clear_19 : decode cX1_clear 19 = .ok (.if_icmp .ge 22, 3) := by decide +kernel
theorem dX1_clear_22 : decode cX1_clear 22 = .ok (.iload_n 1, 1) := by decide +kernel
theorem dX1_clear_23 : decode cX1_clear 23 = .ok (.aload_n 0, 1) := by decide +kernel
theorem dX1_clear_24 : decode cX1_clear 24 = .ok (.getfield 13, 3) := by decide +kernel
theorem dX1_clear_27 : decode cX1_clear 27 = .ok (.iload_n 2, 1) := by decide +kernel
theorem dX1_clear_28 : decode cX1_clear 28 = .ok (.iaload, 1) := by decide +kernel
theorem dX1_clear_29 : decode cX1_clear 29 = .ok (.iload_n 3, 1) := by decide +kernel
theorem dX1_clear_30 : decode cX1_clear 30 = .ok (.ishr, 1) := by decide +kernel
theorem dX1_clear_31 : decode cX1_clear 31 = .ok (.iconst 1, 1) := by decide +kernel
theorem dX1_clear_32 : decode cX1_clear 32 = .ok (.iand, 1) := by decide +kernel
theorem dX1_clear_33 : decode cX1_clear 33 = .ok (.iadd, 1) := by decide +kernel
theorem dX1_clear_34 : decode cX1_clear 34 = .ok (.istore_n 1, 1) := by decide +kernel
theorem dX1_clear_35 : decode cX1_clear 35 = .ok (.iinc 3 1, 3) := by decide +kernel
theorem dX1_clear_38 : decode cX1_clear 38 = .ok (.goto (-24), 3) := by decide +kernel
theorem dX1_clear_41 : decode cX1_clear 41 = .ok (.aload_n 0, 1) := by decide +kernel
theorem dX1_clear_42 : decode cX1_clear 42 = .ok (.getfield 13, 3) := by decide +kernel
theorem dX1_clear_45 : decode cX1_clear 45 = .ok (.iload_n 2, 1) := by decide +kernel
theorem dX1_clear_46 : decode cX1_clear 46 = .ok (.iconst 0, 1) := by decide +kernel
theorem dX1_clear_47 : decode cX1_clear 47 = .ok (.iastore, 1) := by decide +kernel
theorem dX1_clear_48 : decode cX1_clear 48 = .ok (.aload_n 0, 1) := by decide +kernel
theorem dX1_clear_49 : decode cX1_clear 49 = .ok (.getfield 7, 3) := by decide +kernel
theorem dX1_clear_52 : decode cX1_clear 52 = .ok (.iload_n 2, 1) := by decide +kernel
theorem dX1_clear_53 : decode cX1_clear 53 = .ok (.iconst 0, 1) := by decide +kernel
theorem dX1_clear_54 : decode cX1_clear 54 = .ok (.iastore, 1) := by decide +kernel
theorem dX1_clear_55 : decode cX1_clear 55 = .ok (.iinc 2 1, 3) := by decide +kernel
theorem dX1_clear_58 : decode cX1_clear 58 = .ok (.goto (-54), 3) := by decide +kernel
theorem dX1_clear_61 : decode cX1_clear 61 = .ok (.aload_n 0, 1) := by decide +kernel
theorem dX1_clear_62 : decode cX1_clear 62 = .ok (.iconst 0, 1) := by decide +kernel
theorem dX1_clear_63 : decode cX1_clear 63 = .ok (.putfield 49, 3) := by decide +kernel
theorem dX1_clear_66 : decode cX1_clear 66 = .ok (.iload_n 1, 1) := by decide +kernel
theorem dX1_clear_67 : decode cX1_clear 67 = .ok (.ireturn, 1) := by decide +kernel
theorem q19 : (Jvm.Cond.initialized "ArgumentLabeller") ∈ lw_all := lw_g (lw_at lw_m0 1 rfl) rfl
theorem q22 : (Jvm.Cond.instantiable "ArgumentLabeller" (16 : Nat)) ∈ lw_all := lw_g (lw_at lw_m0 4 rfl) rfl
theorem q24 : (Jvm.Cond.instanceMethod ({ cls := "ArgumentLabeller", name := "<init>", desc := "(I)V" } : Jvm.MethodName)) ∈ lw_all := lw_g (lw_at lw_m0 6 rfl) rfl
theorem q25 : (Jvm.Cond.code ({ cls := "ArgumentLabeller", name := "<init>", desc := "(I)V" } : Jvm.MethodName) prog_1_method_1_code (2 : Nat) (Option.none : Option Jvm.ClassFile.FieldType)) ∈ lw_all := lw_g (lw_at lw_m0 7 rfl) rfl
theorem q26 : (Jvm.Cond.methodLink "ArgumentLabeller" (1 : Nat) ({ cls := "java/lang/Object", name := "<init>", desc := "()V" } : Jvm.MethodName)) ∈ lw_all := lw_g (lw_at lw_m0 8 rfl) rfl
theorem q29 : (Jvm.Cond.fieldLink "ArgumentLabeller" (38 : Nat) "ArgumentLabeller" "argumentCount" "I") ∈ lw_all := lw_g (lw_at lw_m0 11 rfl) rfl
theorem q30 : (Jvm.Cond.fieldLink "ArgumentLabeller" (42 : Nat) "ArgumentLabeller" "everything" "I") ∈ lw_all := lw_g (lw_at lw_m0 12 rfl) rfl
theorem q31 : (Jvm.Cond.fieldLink "ArgumentLabeller" (7 : Nat) "ArgumentLabeller" "attackers" "[I") ∈ lw_all := lw_g (lw_at lw_m0 13 rfl) rfl
theorem q32 : (Jvm.Cond.fieldLink "ArgumentLabeller" (13 : Nat) "ArgumentLabeller" "targets" "[I") ∈ lw_all := lw_g (lw_at lw_m0 14 rfl) rfl
theorem q33 : (Jvm.Cond.fieldLink "ArgumentLabeller" (53 : Nat) "ArgumentLabeller" "accepted" "I") ∈ lw_all := lw_g (lw_at lw_m0 15 rfl) rfl
theorem q34 : (Jvm.Cond.fieldLink "ArgumentLabeller" (56 : Nat) "ArgumentLabeller" "rejected" "I") ∈ lw_all := lw_g (lw_at lw_m0 16 rfl) rfl
theorem q35 : (Jvm.Cond.fieldLink "ArgumentLabeller" (65 : Nat) "ArgumentLabeller" "undecided" "I") ∈ lw_all := lw_g (lw_at lw_m0 17 rfl) rfl
theorem q36 : (Jvm.Cond.fieldLink "ArgumentLabeller" (59 : Nat) "ArgumentLabeller" "changed" "Z") ∈ lw_all := lw_g (lw_at lw_m0 18 rfl) rfl
theorem q37 : (Jvm.Cond.fieldLink "ArgumentLabeller" (16 : Nat) "ArgumentLabeller" "frameAccepted" "[I") ∈ lw_all := lw_g (lw_at lw_m0 19 rfl) rfl
theorem q38 : (Jvm.Cond.fieldLink "ArgumentLabeller" (19 : Nat) "ArgumentLabeller" "frameRejected" "[I") ∈ lw_all := lw_g (lw_at lw_m0 20 rfl) rfl
theorem q39 : (Jvm.Cond.fieldLink "ArgumentLabeller" (22 : Nat) "ArgumentLabeller" "frameUndecided" "[I") ∈ lw_all := lw_g (lw_at lw_m0 21 rfl) rfl
theorem q40 : (Jvm.Cond.fieldLink "ArgumentLabeller" (25 : Nat) "ArgumentLabeller" "frameArgument" "[B") ∈ lw_all := lw_g (lw_at lw_m0 22 rfl) rfl
theorem q41 : (Jvm.Cond.fieldLink "ArgumentLabeller" (29 : Nat) "ArgumentLabeller" "frameTried" "[B") ∈ lw_all := lw_g (lw_at lw_m0 23 rfl) rfl
theorem q42 : (Jvm.Cond.fieldLink "ArgumentLabeller" (49 : Nat) "ArgumentLabeller" "searched" "Z") ∈ lw_all := lw_g (lw_at lw_m0 24 rfl) rfl
theorem q43 : (Jvm.Cond.fieldLink "ArgumentLabeller" (32 : Nat) "ArgumentLabeller" "kinds" "[B") ∈ lw_all := lw_g (lw_at lw_m0 25 rfl) rfl
theorem q44 : (Jvm.Cond.fieldLink "ArgumentLabeller" (35 : Nat) "ArgumentLabeller" "range" "[I") ∈ lw_all := lw_g (lw_at lw_m0 26 rfl) rfl
theorem q45 : (Jvm.Cond.lays "ArgumentLabeller" "ArgumentLabeller" "argumentCount" "I") ∈ lw_all := lw_g (lw_at lw_m0 27 rfl) rfl
theorem q46 : (Jvm.Cond.soleField "ArgumentLabeller" "argumentCount") ∈ lw_all := lw_g (lw_at lw_m0 28 rfl) rfl
theorem q47 : (Jvm.Cond.lays "ArgumentLabeller" "ArgumentLabeller" "everything" "I") ∈ lw_all := lw_g (lw_at lw_m0 29 rfl) rfl
theorem q48 : (Jvm.Cond.soleField "ArgumentLabeller" "everything") ∈ lw_all := lw_g (lw_at lw_m0 30 rfl) rfl
theorem q49 : (Jvm.Cond.laysFinal "ArgumentLabeller" "ArgumentLabeller" "attackers" "[I") ∈ lw_all := lw_g (lw_at lw_m0 31 rfl) rfl
theorem q50 : (Jvm.Cond.soleField "ArgumentLabeller" "attackers") ∈ lw_all := lw_g (lw_at lw_m0 32 rfl) rfl
theorem q51 : (Jvm.Cond.laysFinal "ArgumentLabeller" "ArgumentLabeller" "targets" "[I") ∈ lw_all := lw_g (lw_at lw_m0 33 rfl) rfl
theorem q52 : (Jvm.Cond.soleField "ArgumentLabeller" "targets") ∈ lw_all := lw_g (lw_at lw_m0 34 rfl) rfl
theorem q53 : (Jvm.Cond.lays "ArgumentLabeller" "ArgumentLabeller" "accepted" "I") ∈ lw_all := lw_g (lw_at lw_m0 35 rfl) rfl
theorem q54 : (Jvm.Cond.soleField "ArgumentLabeller" "accepted") ∈ lw_all := lw_g (lw_at lw_m0 36 rfl) rfl
theorem q55 : (Jvm.Cond.lays "ArgumentLabeller" "ArgumentLabeller" "rejected" "I") ∈ lw_all := lw_g (lw_at lw_m0 37 rfl) rfl
theorem q56 : (Jvm.Cond.soleField "ArgumentLabeller" "rejected") ∈ lw_all := lw_g (lw_at lw_m0 38 rfl) rfl
theorem q57 : (Jvm.Cond.lays "ArgumentLabeller" "ArgumentLabeller" "undecided" "I") ∈ lw_all := lw_g (lw_at lw_m0 39 rfl) rfl
theorem q58 : (Jvm.Cond.soleField "ArgumentLabeller" "undecided") ∈ lw_all := lw_g (lw_at lw_m0 40 rfl) rfl
theorem q59 : (Jvm.Cond.lays "ArgumentLabeller" "ArgumentLabeller" "changed" "Z") ∈ lw_all := lw_g (lw_at lw_m0 41 rfl) rfl
theorem q60 : (Jvm.Cond.soleField "ArgumentLabeller" "changed") ∈ lw_all := lw_g (lw_at lw_m0 42 rfl) rfl
theorem q61 : (Jvm.Cond.laysFinal "ArgumentLabeller" "ArgumentLabeller" "frameAccepted" "[I") ∈ lw_all := lw_g (lw_at lw_m0 43 rfl) rfl
theorem q62 : (Jvm.Cond.soleField "ArgumentLabeller" "frameAccepted") ∈ lw_all := lw_g (lw_at lw_m0 44 rfl) rfl
theorem q63 : (Jvm.Cond.laysFinal "ArgumentLabeller" "ArgumentLabeller" "frameRejected" "[I") ∈ lw_all := lw_g (lw_at lw_m0 45 rfl) rfl
theorem q64 : (Jvm.Cond.soleField "ArgumentLabeller" "frameRejected") ∈ lw_all := lw_g (lw_at lw_m0 46 rfl) rfl
theorem q65 : (Jvm.Cond.laysFinal "ArgumentLabeller" "ArgumentLabeller" "frameUndecided" "[I") ∈ lw_all := lw_g (lw_at lw_m0 47 rfl) rfl
theorem q66 : (Jvm.Cond.soleField "ArgumentLabeller" "frameUndecided") ∈ lw_all := lw_g (lw_at lw_m0 48 rfl) rfl
theorem q67 : (Jvm.Cond.laysFinal "ArgumentLabeller" "ArgumentLabeller" "frameArgument" "[B") ∈ lw_all := lw_g (lw_at lw_m0 49 rfl) rfl
theorem q68 : (Jvm.Cond.soleField "ArgumentLabeller" "frameArgument") ∈ lw_all := lw_g (lw_at lw_m0 50 rfl) rfl
theorem q69 : (Jvm.Cond.laysFinal "ArgumentLabeller" "ArgumentLabeller" "frameTried" "[B") ∈ lw_all := lw_g (lw_at lw_m0 51 rfl) rfl
theorem q70 : (Jvm.Cond.soleField "ArgumentLabeller" "frameTried") ∈ lw_all := lw_g (lw_at lw_m0 52 rfl) rfl
theorem q71 : (Jvm.Cond.lays "ArgumentLabeller" "ArgumentLabeller" "searched" "Z") ∈ lw_all := lw_g (lw_at lw_m0 53 rfl) rfl
theorem q72 : (Jvm.Cond.soleField "ArgumentLabeller" "searched") ∈ lw_all := lw_g (lw_at lw_m0 54 rfl) rfl
theorem q73 : (Jvm.Cond.laysFinal "ArgumentLabeller" "ArgumentLabeller" "kinds" "[B") ∈ lw_all := lw_g (lw_at lw_m0 55 rfl) rfl
theorem q74 : (Jvm.Cond.soleField "ArgumentLabeller" "kinds") ∈ lw_all := lw_g (lw_at lw_m0 56 rfl) rfl
theorem q75 : (Jvm.Cond.laysFinal "ArgumentLabeller" "ArgumentLabeller" "range" "[I") ∈ lw_all := lw_g (lw_at lw_m0 57 rfl) rfl
theorem q76 : (Jvm.Cond.soleField "ArgumentLabeller" "range") ∈ lw_all := lw_g (lw_at lw_m0 58 rfl) rfl
theorem q77 : (Jvm.Cond.superclass "ArgumentLabeller" "java/lang/Object") ∈ lw_all := lw_g (lw_at lw_m0 59 rfl) rfl
theorem q81 : (Jvm.Cond.instanceMethod ({ cls := "ArgumentLabeller", name := "attack", desc := "(II)I" } : Jvm.MethodName)) ∈ lw_all := lw_g (lw_at lw_m0 63 rfl) rfl
theorem q82 : (Jvm.Cond.selects "ArgumentLabeller" ({ cls := "ArgumentLabeller", name := "attack", desc := "(II)I" } : Jvm.MethodName) ({ cls := "ArgumentLabeller", name := "attack", desc := "(II)I" } : Jvm.MethodName)) ∈ lw_all := lw_g (lw_at lw_m0 64 rfl) rfl
theorem q83 : (Jvm.Cond.code ({ cls := "ArgumentLabeller", name := "attack", desc := "(II)I" } : Jvm.MethodName) prog_1_method_2_code (3 : Nat) (Option.some Jvm.ClassFile.FieldType.int)) ∈ lw_all := lw_g (lw_at lw_m0 65 rfl) rfl
theorem q84 : (Jvm.Cond.methodLink "ArgumentLabeller" (45 : Nat) ({ cls := "ArgumentLabeller", name := "isArgument", desc := "(I)Z" } : Jvm.MethodName)) ∈ lw_all := lw_g (lw_at lw_m0 66 rfl) rfl
theorem q85 : (Jvm.Cond.privateMethod ({ cls := "ArgumentLabeller", name := "isArgument", desc := "(I)Z" } : Jvm.MethodName)) ∈ lw_tbl := lw_at lw_m0 67 rfl
theorem q86 : (Jvm.Cond.instanceMethod ({ cls := "ArgumentLabeller", name := "isArgument", desc := "(I)Z" } : Jvm.MethodName)) ∈ lw_all := lw_g (lw_at lw_m0 68 rfl) rfl
theorem q87 : (Jvm.Cond.code ({ cls := "ArgumentLabeller", name := "isArgument", desc := "(I)Z" } : Jvm.MethodName) prog_1_method_11_code (2 : Nat) (Option.some Jvm.ClassFile.FieldType.boolean)) ∈ lw_all := lw_g (lw_at lw_m0 69 rfl) rfl
theorem q89 : (Jvm.Cond.instanceMethod ({ cls := "ArgumentLabeller", name := "withdraw", desc := "(II)I" } : Jvm.MethodName)) ∈ lw_all := lw_g (lw_at lw_m0 71 rfl) rfl
theorem q90 : (Jvm.Cond.selects "ArgumentLabeller" ({ cls := "ArgumentLabeller", name := "withdraw", desc := "(II)I" } : Jvm.MethodName) ({ cls := "ArgumentLabeller", name := "withdraw", desc := "(II)I" } : Jvm.MethodName)) ∈ lw_all := lw_g (lw_at lw_m0 72 rfl) rfl
theorem q91 : (Jvm.Cond.code ({ cls := "ArgumentLabeller", name := "withdraw", desc := "(II)I" } : Jvm.MethodName) prog_1_method_3_code (3 : Nat) (Option.some Jvm.ClassFile.FieldType.int)) ∈ lw_all := lw_g (lw_at lw_m0 73 rfl) rfl
theorem q93 : (Jvm.Cond.instanceMethod ({ cls := "ArgumentLabeller", name := "attacks", desc := "(II)Z" } : Jvm.MethodName)) ∈ lw_all := lw_g (lw_at lw_m0 75 rfl) rfl
theorem q94 : (Jvm.Cond.selects "ArgumentLabeller" ({ cls := "ArgumentLabeller", name := "attacks", desc := "(II)Z" } : Jvm.MethodName) ({ cls := "ArgumentLabeller", name := "attacks", desc := "(II)Z" } : Jvm.MethodName)) ∈ lw_all := lw_g (lw_at lw_m0 76 rfl) rfl
theorem q95 : (Jvm.Cond.code ({ cls := "ArgumentLabeller", name := "attacks", desc := "(II)Z" } : Jvm.MethodName) prog_1_method_4_code (3 : Nat) (Option.some Jvm.ClassFile.FieldType.boolean)) ∈ lw_all := lw_g (lw_at lw_m0 77 rfl) rfl
theorem q97 : (Jvm.Cond.instanceMethod ({ cls := "ArgumentLabeller", name := "grounded", desc := "()I" } : Jvm.MethodName)) ∈ lw_all := lw_g (lw_at lw_m0 79 rfl) rfl
theorem q98 : (Jvm.Cond.selects "ArgumentLabeller" ({ cls := "ArgumentLabeller", name := "grounded", desc := "()I" } : Jvm.MethodName) ({ cls := "ArgumentLabeller", name := "grounded", desc := "()I" } : Jvm.MethodName)) ∈ lw_all := lw_g (lw_at lw_m0 80 rfl) rfl
theorem q99 : (Jvm.Cond.code ({ cls := "ArgumentLabeller", name := "grounded", desc := "()I" } : Jvm.MethodName) prog_1_method_5_code (3 : Nat) (Option.some Jvm.ClassFile.FieldType.int)) ∈ lw_all := lw_g (lw_at lw_m0 81 rfl) rfl
theorem q101 : (Jvm.Cond.instanceMethod ({ cls := "ArgumentLabeller", name := "count", desc := "(I)I" } : Jvm.MethodName)) ∈ lw_all := lw_g (lw_at lw_m0 83 rfl) rfl
theorem q102 : (Jvm.Cond.selects "ArgumentLabeller" ({ cls := "ArgumentLabeller", name := "count", desc := "(I)I" } : Jvm.MethodName) ({ cls := "ArgumentLabeller", name := "count", desc := "(I)I" } : Jvm.MethodName)) ∈ lw_all := lw_g (lw_at lw_m0 84 rfl) rfl
theorem q103 : (Jvm.Cond.code ({ cls := "ArgumentLabeller", name := "count", desc := "(I)I" } : Jvm.MethodName) prog_1_method_6_code (4 : Nat) (Option.some Jvm.ClassFile.FieldType.int)) ∈ lw_all := lw_g (lw_at lw_m0 85 rfl) rfl
theorem q104 : (Jvm.Cond.methodLink "ArgumentLabeller" (62 : Nat) ({ cls := "ArgumentLabeller", name := "search", desc := "()V" } : Jvm.MethodName)) ∈ lw_all := lw_g (lw_at lw_m0 86 rfl) rfl
theorem q105 : (Jvm.Cond.privateMethod ({ cls := "ArgumentLabeller", name := "search", desc := "()V" } : Jvm.MethodName)) ∈ lw_tbl := lw_at lw_m0 87 rfl
theorem q106 : (Jvm.Cond.instanceMethod ({ cls := "ArgumentLabeller", name := "search", desc := "()V" } : Jvm.MethodName)) ∈ lw_all := lw_g (lw_at lw_m0 88 rfl) rfl
theorem q107 : (Jvm.Cond.code ({ cls := "ArgumentLabeller", name := "search", desc := "()V" } : Jvm.MethodName) prog_1_method_12_code (4 : Nat) (Option.none : Option Jvm.ClassFile.FieldType)) ∈ lw_all := lw_g (lw_at lw_m0 89 rfl) rfl
theorem q108 : (Jvm.Cond.methodLink "ArgumentLabeller" (68 : Nat) ({ cls := "ArgumentLabeller", name := "propagate", desc := "()Z" } : Jvm.MethodName)) ∈ lw_all := lw_g (lw_at lw_m0 90 rfl) rfl
theorem q109 : (Jvm.Cond.privateMethod ({ cls := "ArgumentLabeller", name := "propagate", desc := "()Z" } : Jvm.MethodName)) ∈ lw_tbl := lw_at lw_m0 91 rfl
theorem q110 : (Jvm.Cond.instanceMethod ({ cls := "ArgumentLabeller", name := "propagate", desc := "()Z" } : Jvm.MethodName)) ∈ lw_all := lw_g (lw_at lw_m0 92 rfl) rfl
theorem q111 : (Jvm.Cond.code ({ cls := "ArgumentLabeller", name := "propagate", desc := "()Z" } : Jvm.MethodName) prog_1_method_15_code (3 : Nat) (Option.some Jvm.ClassFile.FieldType.boolean)) ∈ lw_all := lw_g (lw_at lw_m0 93 rfl) rfl
theorem q112 : (Jvm.Cond.methodLink "ArgumentLabeller" (83 : Nat) ({ cls := "ArgumentLabeller", name := "conclude", desc := "(I)Z" } : Jvm.MethodName)) ∈ lw_all := lw_g (lw_at lw_m0 94 rfl) rfl
theorem q113 : (Jvm.Cond.privateMethod ({ cls := "ArgumentLabeller", name := "conclude", desc := "(I)Z" } : Jvm.MethodName)) ∈ lw_tbl := lw_at lw_m0 95 rfl
theorem q114 : (Jvm.Cond.instanceMethod ({ cls := "ArgumentLabeller", name := "conclude", desc := "(I)Z" } : Jvm.MethodName)) ∈ lw_all := lw_g (lw_at lw_m0 96 rfl) rfl
theorem q115 : (Jvm.Cond.code ({ cls := "ArgumentLabeller", name := "conclude", desc := "(I)Z" } : Jvm.MethodName) prog_1_method_16_code (5 : Nat) (Option.some Jvm.ClassFile.FieldType.boolean)) ∈ lw_all := lw_g (lw_at lw_m0 97 rfl) rfl
theorem q116 : (Jvm.Cond.methodLink "ArgumentLabeller" (76 : Nat) ({ cls := "ArgumentLabeller", name := "label", desc := "(II)V" } : Jvm.MethodName)) ∈ lw_all := lw_g (lw_at lw_m0 98 rfl) rfl
theorem q117 : (Jvm.Cond.privateMethod ({ cls := "ArgumentLabeller", name := "label", desc := "(II)V" } : Jvm.MethodName)) ∈ lw_tbl := lw_at lw_m0 99 rfl
theorem q118 : (Jvm.Cond.instanceMethod ({ cls := "ArgumentLabeller", name := "label", desc := "(II)V" } : Jvm.MethodName)) ∈ lw_all := lw_g (lw_at lw_m0 100 rfl) rfl
theorem q119 : (Jvm.Cond.code ({ cls := "ArgumentLabeller", name := "label", desc := "(II)V" } : Jvm.MethodName) prog_1_method_14_code (3 : Nat) (Option.none : Option Jvm.ClassFile.FieldType)) ∈ lw_all := lw_g (lw_at lw_m0 101 rfl) rfl
theorem q120 : (Jvm.Cond.methodLink "ArgumentLabeller" (86 : Nat) ({ cls := "ArgumentLabeller", name := "support", desc := "(I)Z" } : Jvm.MethodName)) ∈ lw_all := lw_g (lw_at lw_m0 102 rfl) rfl
theorem q121 : (Jvm.Cond.privateMethod ({ cls := "ArgumentLabeller", name := "support", desc := "(I)Z" } : Jvm.MethodName)) ∈ lw_tbl := lw_at lw_m0 103 rfl
theorem q122 : (Jvm.Cond.instanceMethod ({ cls := "ArgumentLabeller", name := "support", desc := "(I)Z" } : Jvm.MethodName)) ∈ lw_all := lw_g (lw_at lw_m0 104 rfl) rfl
theorem q123 : (Jvm.Cond.code ({ cls := "ArgumentLabeller", name := "support", desc := "(I)Z" } : Jvm.MethodName) prog_1_method_17_code (7 : Nat) (Option.some Jvm.ClassFile.FieldType.boolean)) ∈ lw_all := lw_g (lw_at lw_m0 105 rfl) rfl
theorem q124 : (Jvm.Cond.methodLink "ArgumentLabeller" (72 : Nat) ({ cls := "ArgumentLabeller", name := "branch", desc := "(I)I" } : Jvm.MethodName)) ∈ lw_all := lw_g (lw_at lw_m0 106 rfl) rfl
theorem q125 : (Jvm.Cond.privateMethod ({ cls := "ArgumentLabeller", name := "branch", desc := "(I)I" } : Jvm.MethodName)) ∈ lw_tbl := lw_at lw_m0 107 rfl
theorem q126 : (Jvm.Cond.instanceMethod ({ cls := "ArgumentLabeller", name := "branch", desc := "(I)I" } : Jvm.MethodName)) ∈ lw_all := lw_g (lw_at lw_m0 108 rfl) rfl
theorem q127 : (Jvm.Cond.code ({ cls := "ArgumentLabeller", name := "branch", desc := "(I)I" } : Jvm.MethodName) prog_1_method_13_code (5 : Nat) (Option.some Jvm.ClassFile.FieldType.int)) ∈ lw_all := lw_g (lw_at lw_m0 109 rfl) rfl
theorem q128 : (Jvm.Cond.methodLink "ArgumentLabeller" (80 : Nat) ({ cls := "ArgumentLabeller", name := "compare", desc := "()V" } : Jvm.MethodName)) ∈ lw_all := lw_g (lw_at lw_m0 110 rfl) rfl
theorem q129 : (Jvm.Cond.privateMethod ({ cls := "ArgumentLabeller", name := "compare", desc := "()V" } : Jvm.MethodName)) ∈ lw_tbl := lw_at lw_m0 111 rfl
theorem q130 : (Jvm.Cond.instanceMethod ({ cls := "ArgumentLabeller", name := "compare", desc := "()V" } : Jvm.MethodName)) ∈ lw_all := lw_g (lw_at lw_m0 112 rfl) rfl
theorem q131 : (Jvm.Cond.code ({ cls := "ArgumentLabeller", name := "compare", desc := "()V" } : Jvm.MethodName) prog_1_method_18_code (5 : Nat) (Option.none : Option Jvm.ClassFile.FieldType)) ∈ lw_all := lw_g (lw_at lw_m0 113 rfl) rfl
theorem q133 : (Jvm.Cond.instanceMethod ({ cls := "ArgumentLabeller", name := "extension", desc := "(II)I" } : Jvm.MethodName)) ∈ lw_all := lw_g (lw_at lw_m0 115 rfl) rfl
theorem q134 : (Jvm.Cond.selects "ArgumentLabeller" ({ cls := "ArgumentLabeller", name := "extension", desc := "(II)I" } : Jvm.MethodName) ({ cls := "ArgumentLabeller", name := "extension", desc := "(II)I" } : Jvm.MethodName)) ∈ lw_all := lw_g (lw_at lw_m0 116 rfl) rfl
theorem q135 : (Jvm.Cond.code ({ cls := "ArgumentLabeller", name := "extension", desc := "(II)I" } : Jvm.MethodName) prog_1_method_7_code (5 : Nat) (Option.some Jvm.ClassFile.FieldType.int)) ∈ lw_all := lw_g (lw_at lw_m0 117 rfl) rfl
theorem q137 : (Jvm.Cond.instanceMethod ({ cls := "ArgumentLabeller", name := "inSome", desc := "(I)I" } : Jvm.MethodName)) ∈ lw_all := lw_g (lw_at lw_m0 119 rfl) rfl
theorem q138 : (Jvm.Cond.selects "ArgumentLabeller" ({ cls := "ArgumentLabeller", name := "inSome", desc := "(I)I" } : Jvm.MethodName) ({ cls := "ArgumentLabeller", name := "inSome", desc := "(I)I" } : Jvm.MethodName)) ∈ lw_all := lw_g (lw_at lw_m0 120 rfl) rfl
theorem q139 : (Jvm.Cond.code ({ cls := "ArgumentLabeller", name := "inSome", desc := "(I)I" } : Jvm.MethodName) prog_1_method_8_code (4 : Nat) (Option.some Jvm.ClassFile.FieldType.int)) ∈ lw_all := lw_g (lw_at lw_m0 121 rfl) rfl
theorem q141 : (Jvm.Cond.instanceMethod ({ cls := "ArgumentLabeller", name := "inEvery", desc := "(I)I" } : Jvm.MethodName)) ∈ lw_all := lw_g (lw_at lw_m0 123 rfl) rfl
theorem q142 : (Jvm.Cond.selects "ArgumentLabeller" ({ cls := "ArgumentLabeller", name := "inEvery", desc := "(I)I" } : Jvm.MethodName) ({ cls := "ArgumentLabeller", name := "inEvery", desc := "(I)I" } : Jvm.MethodName)) ∈ lw_all := lw_g (lw_at lw_m0 124 rfl) rfl
theorem q143 : (Jvm.Cond.code ({ cls := "ArgumentLabeller", name := "inEvery", desc := "(I)I" } : Jvm.MethodName) prog_1_method_9_code (4 : Nat) (Option.some Jvm.ClassFile.FieldType.int)) ∈ lw_all := lw_g (lw_at lw_m0 125 rfl) rfl
theorem q145 : (Jvm.Cond.instanceMethod ({ cls := "ArgumentLabeller", name := "clear", desc := "()I" } : Jvm.MethodName)) ∈ lw_all := lw_g (lw_at lw_m0 127 rfl) rfl
theorem q146 : (Jvm.Cond.selects "ArgumentLabeller" ({ cls := "ArgumentLabeller", name := "clear", desc := "()I" } : Jvm.MethodName) ({ cls := "ArgumentLabeller", name := "clear", desc := "()I" } : Jvm.MethodName)) ∈ lw_all := lw_g (lw_at lw_m0 128 rfl) rfl
theorem q147 : (Jvm.Cond.code ({ cls := "ArgumentLabeller", name := "clear", desc := "()I" } : Jvm.MethodName) prog_1_method_10_code (4 : Nat) (Option.some Jvm.ClassFile.FieldType.int)) ∈ lw_all := lw_g (lw_at lw_m0 129 rfl) rfl
theorem in_X1 : ∀ w ∈ wsX10, w ∈ lw_all := lw_in wsX10 [45, 47, 49, 51, 53, 55, 57, 59, 61, 63, 65, 67, 69, 71, 73, 75] (by decide +kernel) (by decide +kernel)
end
section
set_option maxRecDepth 100000
/-! ArgumentLabellerModel -/
def RX2 : String := "ArgumentLabellerModel"
def TX2 : u_T := fun k => match k with
  | 0 => ("ArgumentLabellerModel", "n", "I", false)
  | 1 => ("ArgumentLabellerModel", "all", "I", false)
  | _ => ("ArgumentLabellerModel", "there", "[Z", false)
def tyX2 : Nat → FieldType := fun k => match k with
  | 0 => .int
  | 1 => .int
  | _ => .array .boolean
abbrev wsX20 : List Cond := u_ws RX2 TX2 3
theorem nmX2 : ∀ a, a < 3 → ∀ b, b < 3 → a ≠ b → (TX2 a).2.1 ≠ (TX2 b).2.1 := by decide +kernel
theorem tyX2_ok : ∀ k, k < 3 → parseFieldDescriptor (TX2 k).2.2.1 = some (tyX2 k) := by decide +kernel
abbrev cX2_init : ByteArray := prog_3_method_1_code
def yX2_init : MethodName := ⟨RX2, "<init>", "(I)V"⟩
theorem dX2_init_0 : decode cX2_init 0 = .ok (.aload_n 0, 1) := by decide +kernel
theorem dX2_init_1 : decode cX2_init 1 = .ok (.invokespecial 1, 3) := by decide +kernel
theorem dX2_init_4 : decode cX2_init 4 = .ok (.aload_n 0, 1) := by decide +kernel
theorem dX2_init_5 : decode cX2_init 5 = .ok (.bipush 64, 2) := by decide +kernel
theorem dX2_init_7 : decode cX2_init 7 = .ok (.newarray .boolean, 2) := by decide +kernel
theorem dX2_init_9 : decode cX2_init 9 = .ok (.putfield 7, 3) := by decide +kernel
theorem dX2_init_12 : decode cX2_init 12 = .ok (.aload_n 0, 1) := by decide +kernel
theorem dX2_init_13 : decode cX2_init 13 = .ok (.iload_n 1, 1) := by decide +kernel
theorem dX2_init_14 : decode cX2_init 14 = .ok (.iconst 2, 1) := by decide +kernel
theorem dX2_init_15 : decode cX2_init 15 = .ok (.if_icmp .ge 7, 3) := by decide +kernel
theorem dX2_init_18 : decode cX2_init 18 = .ok (.iconst 2, 1) := by decide +kernel
theorem dX2_init_19 : decode cX2_init 19 = .ok (.goto 15, 3) := by decide +kernel
theorem dX2_init_22 : decode cX2_init 22 = .ok (.iload_n 1, 1) := by decide +kernel
theorem dX2_init_23 : decode cX2_init 23 = .ok (.bipush 8, 2) := by decide +kernel
theorem dX2_init_25 : decode cX2_init 25 = .ok (.if_icmp .le 8, 3) := by decide +kernel
theorem dX2_init_28 : decode cX2_init 28 = .ok (.bipush 8, 2) := by decide +kernel
theorem dX2_init_30 : decode cX2_init 30 = .ok (.goto 4, 3) := by decide +kernel
theorem dX2_init_33 : decode cX2_init 33 = .ok (.iload_n 1, 1) := by decide +kernel
theorem dX2_init_34 : decode cX2_init 34 = .ok (.putfield 13, 3) := by decide +kernel
theorem dX2_init_37 : decode cX2_init 37 = .ok (.aload_n 0, 1) := by decide +kernel
theorem dX2_init_38 : decode cX2_init 38 = .ok (.iconst 1, 1) := by decide +kernel
theorem dX2_init_39 : decode cX2_init 39 = .ok (.aload_n 0, 1) := by decide +kernel
theorem dX2_init_40 : decode cX2_init 40 = .ok (.getfield 13, 3) := by decide +kernel
theorem dX2_init_43 : decode cX2_init 43 = .ok (.ishl, 1) := by decide +kernel
theorem dX2_init_44 : decode cX2_init 44 = .ok (.iconst 1, 1) := by decide +kernel
theorem dX2_init_45 : decode cX2_init 45 = .ok (.isub, 1) := by decide +kernel
theorem dX2_init_46 : decode cX2_init 46 = .ok (.putfield 17, 3) := by decide +kernel
theorem dX2_init_49 : decode cX2_init 49 = .ok (.return_, 1) := by decide +kernel
abbrev cX2_attack : ByteArray := prog_3_method_4_code
def yX2_attack : MethodName := ⟨RX2, "attack", "(II)I"⟩
theorem dX2_attack_0 : decode cX2_attack 0 = .ok (.aload_n 0, 1) := by decide +kernel
theorem dX2_attack_1 : decode cX2_attack 1 = .ok (.iload_n 1, 1) := by decide +kernel
theorem dX2_attack_2 : decode cX2_attack 2 = .ok (.invokevirtual 20, 3) := by decide +kernel
theorem dX2_attack_5 : decode cX2_attack 5 = .ok (.ifCond .eq 11, 3) := by decide +kernel
theorem dX2_attack_8 : decode cX2_attack 8 = .ok (.aload_n 0, 1) := by decide +kernel
theorem dX2_attack_9 : decode cX2_attack 9 = .ok (.iload_n 2, 1) := by decide +kernel
theorem dX2_attack_10 : decode cX2_attack 10 = .ok (.invokevirtual 20, 3) := by decide +kernel
theorem dX2_attack_13 : decode cX2_attack 13 = .ok (.ifCond .ne 5, 3) := by decide +kernel
theorem dX2_attack_16 : decode cX2_attack 16 = .ok (.iconst (-1), 1) := by decide +kernel
theorem dX2_attack_17 : decode cX2_attack 17 = .ok (.ireturn, 1) := by decide +kernel
theorem dX2_attack_18 : decode cX2_attack 18 = .ok (.aload_n 0, 1) := by decide +kernel
theorem dX2_attack_19 : decode cX2_attack 19 = .ok (.getfield 7, 3) := by decide +kernel
theorem dX2_attack_22 : decode cX2_attack 22 = .ok (.bipush 8, 2) := by decide +kernel
theorem dX2_attack_24 : decode cX2_attack 24 = .ok (.iload_n 1, 1) := by decide +kernel
theorem dX2_attack_25 : decode cX2_attack 25 = .ok (.imul, 1) := by decide +kernel
theorem dX2_attack_26 : decode cX2_attack 26 = .ok (.iload_n 2, 1) := by decide +kernel
theorem dX2_attack_27 : decode cX2_attack 27 = .ok (.iadd, 1) := by decide +kernel
theorem dX2_attack_28 : decode cX2_attack 28 = .ok (.baload, 1) := by decide +kernel
theorem dX2_attack_29 : decode cX2_attack 29 = .ok (.ifCond .eq 5, 3) := by decide +kernel
theorem dX2_attack_32 : decode cX2_attack 32 = .ok (.iconst 0, 1) := by decide +kernel
theorem dX2_attack_33 : decode cX2_attack 33 = .ok (.ireturn, 1) := by decide +kernel
theorem dX2_attack_34 : decode cX2_attack 34 = .ok (.aload_n 0, 1) := by decide +kernel
theorem dX2_attack_35 : decode cX2_attack 35 = .ok (.getfield 7, 3) := by decide +kernel
theorem dX2_attack_38 : decode cX2_attack 38 = .ok (.bipush 8, 2) := by decide +kernel
theorem dX2_attack_40 : decode cX2_attack 40 = .ok (.iload_n 1, 1) := by decide +kernel
theorem dX2_attack_41 : decode cX2_attack 41 = .ok (.imul, 1) := by decide +kernel
theorem dX2_attack_42 : decode cX2_attack 42 = .ok (.iload_n 2, 1) := by decide +kernel
theorem dX2_attack_43 : decode cX2_attack 43 = .ok (.iadd, 1) := by decide +kernel
theorem dX2_attack_44 : decode cX2_attack 44 = .ok (.iconst 1, 1) := by decide +kernel
theorem dX2_attack_45 : decode cX2_attack 45 = .ok (.bastore, 1) := by decide +kernel
theorem dX2_attack_46 : decode cX2_attack 46 = .ok (.iconst 1, 1) := by decide +kernel
theorem dX2_attack_47 : decode cX2_attack 47 = .ok (.ireturn, 1) := by decide +kernel
abbrev cX2_isArgument : ByteArray := prog_3_method_2_code
def yX2_isArgument : MethodName := ⟨RX2, "isArgument", "(I)Z"⟩
theorem dX2_isArgument_0 : decode cX2_isArgument 0 = .ok (.iload_n 1, 1) := by decide +kernel
theorem dX2_isArgument_1 : decode cX2_isArgument 1 = .ok (.ifCond .lt 15, 3) := by decide +kernel
theorem dX2_isArgument_4 : decode cX2_isArgument 4 = .ok (.iload_n 1, 1) := by decide +kernel
theorem dX2_isArgument_5 : decode cX2_isArgument 5 = .ok (.aload_n 0, 1) := by decide +kernel
theorem dX2_isArgument_6 : decode cX2_isArgument 6 = .ok (.getfield 13, 3) := by decide +kernel
theorem dX2_isArgument_9 : decode cX2_isArgument 9 = .ok (.if_icmp .ge 7, 3) := by decide +kernel
theorem dX2_isArgument_12 : decode cX2_isArgument 12 = .ok (.iconst 1, 1) := by decide +kernel
theorem dX2_isArgument_13 : decode cX2_isArgument 13 = .ok (.goto 4, 3) := by decide +kernel
theorem dX2_isArgument_16 : decode cX2_isArgument 16 = .ok (.iconst 0, 1) := by decide +kernel
theorem dX2_isArgument_17 : decode cX2_isArgument 17 = .ok (.ireturn, 1) := by decide +kernel
abbrev cX2_withdraw : ByteArray := prog_3_method_5_code
def yX2_withdraw : MethodName := ⟨RX2, "withdraw", "(II)I"⟩
theorem dX2_withdraw_0 : decode cX2_withdraw 0 = .ok (.aload_n 0, 1) := by decide +kernel
theorem dX2_withdraw_1 : decode cX2_withdraw 1 = .ok (.iload_n 1, 1) := by decide +kernel
theorem dX2_withdraw_2 : decode cX2_withdraw 2 = .ok (.invokevirtual 20, 3) := by decide +kernel
theorem dX2_withdraw_5 : decode cX2_withdraw 5 = .ok (.ifCond .eq 11, 3) := by decide +kernel
theorem dX2_withdraw_8 : decode cX2_withdraw 8 = .ok (.aload_n 0, 1) := by decide +kernel
theorem dX2_withdraw_9 : decode cX2_withdraw 9 = .ok (.iload_n 2, 1) := by decide +kernel
theorem dX2_withdraw_10 : decode cX2_withdraw 10 = .ok (.invokevirtual 20, 3) := by decide +kernel
theorem dX2_withdraw_13 : decode cX2_withdraw 13 = .ok (.ifCond .ne 5, 3) := by decide +kernel
theorem dX2_withdraw_16 : decode cX2_withdraw 16 = .ok (.iconst (-1), 1) := by decide +kernel
theorem dX2_withdraw_17 : decode cX2_withdraw 17 = .ok (.ireturn, 1) := by decide +kernel
theorem dX2_withdraw_18 : decode cX2_withdraw 18 = .ok (.aload_n 0, 1) := by decide +kernel
theorem dX2_withdraw_19 : decode cX2_withdraw 19 = .ok (.getfield 7, 3) := by decide +kernel
theorem dX2_withdraw_22 : decode cX2_withdraw 22 = .ok (.bipush 8, 2) := by decide +kernel
theorem dX2_withdraw_24 : decode cX2_withdraw 24 = .ok (.iload_n 1, 1) := by decide +kernel
theorem dX2_withdraw_25 : decode cX2_withdraw 25 = .ok (.imul, 1) := by decide +kernel
theorem dX2_withdraw_26 : decode cX2_withdraw 26 = .ok (.iload_n 2, 1) := by decide +kernel
theorem dX2_withdraw_27 : decode cX2_withdraw 27 = .ok (.iadd, 1) := by decide +kernel
theorem dX2_withdraw_28 : decode cX2_withdraw 28 = .ok (.baload, 1) := by decide +kernel
theorem dX2_withdraw_29 : decode cX2_withdraw 29 = .ok (.ifCond .ne 5, 3) := by decide +kernel
theorem dX2_withdraw_32 : decode cX2_withdraw 32 = .ok (.iconst 0, 1) := by decide +kernel
theorem dX2_withdraw_33 : decode cX2_withdraw 33 = .ok (.ireturn, 1) := by decide +kernel
theorem dX2_withdraw_34 : decode cX2_withdraw 34 = .ok (.aload_n 0, 1) := by decide +kernel
theorem dX2_withdraw_35 : decode cX2_withdraw 35 = .ok (.getfield 7, 3) := by decide +kernel
theorem dX2_withdraw_38 : decode cX2_withdraw 38 = .ok (.bipush 8, 2) := by decide +kernel
theorem dX2_withdraw_40 : decode cX2_withdraw 40 = .ok (.iload_n 1, 1) := by decide +kernel
theorem dX2_withdraw_41 : decode cX2_withdraw 41 = .ok (.imul, 1) := by decide +kernel
theorem dX2_withdraw_42 : decode cX2_withdraw 42 = .ok (.iload_n 2, 1) := by decide +kernel
theorem dX2_withdraw_43 : decode cX2_withdraw 43 = .ok (.iadd, 1) := by decide +kernel
theorem dX2_withdraw_44 : decode cX2_withdraw 44 = .ok (.iconst 0, 1) := by decide +kernel
theorem dX2_withdraw_45 : decode cX2_withdraw 45 = .ok (.bastore, 1) := by decide +kernel
theorem dX2_withdraw_46 : decode cX2_withdraw 46 = .ok (.iconst 1, 1) := by decide +kernel
theorem dX2_withdraw_47 : decode cX2_withdraw 47 = .ok (.ireturn, 1) := by decide +kernel
abbrev cX2_attacks : ByteArray := prog_3_method_6_code
def yX2_attacks : MethodName := ⟨RX2, "attacks", "(II)Z"⟩
theorem dX2_attacks_0 : decode cX2_attacks 0 = .ok (.aload_n 0, 1) := by decide +kernel
theorem dX2_attacks_1 : decode cX2_attacks 1 = .ok (.iload_n 1, 1) := by decide +kernel
theorem dX2_attacks_2 : decode cX2_attacks 2 = .ok (.invokevirtual 20, 3) := by decide +kernel
theorem dX2_attacks_5 : decode cX2_attacks 5 = .ok (.ifCond .eq 29, 3) := by decide +kernel
theorem dX2_attacks_8 : decode cX2_attacks 8 = .ok (.aload_n 0, 1) := by decide +kernel
theorem dX2_attacks_9 : decode cX2_attacks 9 = .ok (.iload_n 2, 1) := by decide +kernel
theorem dX2_attacks_10 : decode cX2_attacks 10 = .ok (.invokevirtual 20, 3) := by decide +kernel
theorem dX2_attacks_13 : decode cX2_attacks 13 = .ok (.ifCond .eq 21, 3) := by decide +kernel
theorem dX2_attacks_16 : decode cX2_attacks 16 = .ok (.aload_n 0, 1) := by decide +kernel
theorem dX2_attacks_17 : decode cX2_attacks 17 = .ok (.getfield 7, 3) := by decide +kernel
theorem dX2_attacks_20 : decode cX2_attacks 20 = .ok (.bipush 8, 2) := by decide +kernel
theorem dX2_attacks_22 : decode cX2_attacks 22 = .ok (.iload_n 1, 1) := by decide +kernel
theorem dX2_attacks_23 : decode cX2_attacks 23 = .ok (.imul, 1) := by decide +kernel
theorem dX2_attacks_24 : decode cX2_attacks 24 = .ok (.iload_n 2, 1) := by decide +kernel
theorem dX2_attacks_25 : decode cX2_attacks 25 = .ok (.iadd, 1) := by decide +kernel
theorem dX2_attacks_26 : decode cX2_attacks 26 = .ok (.baload, 1) := by decide +kernel
theorem dX2_attacks_27 : decode cX2_attacks 27 = .ok (.ifCond .eq 7, 3) := by decide +kernel
theorem dX2_attacks_30 : decode cX2_attacks 30 = .ok (.iconst 1, 1) := by decide +kernel
theorem dX2_attacks_31 : decode cX2_attacks 31 = .ok (.goto 4, 3) := by decide +kernel
theorem dX2_attacks_34 : decode cX2_attacks 34 = .ok (.iconst 0, 1) := by decide +kernel
theorem dX2_attacks_35 : decode cX2_attacks 35 = .ok (.ireturn, 1) := by decide +kernel
abbrev cX2_grounded : ByteArray := prog_3_method_14_code
def yX2_grounded : MethodName := ⟨RX2, "grounded", "()I"⟩
theorem dX2_grounded_0 : decode cX2_grounded 0 = .ok (.iconst 0, 1) := by decide +kernel
theorem dX2_grounded_1 : decode cX2_grounded 1 = .ok (.istore_n 1, 1) := by decide +kernel
theorem dX2_grounded_2 : decode cX2_grounded 2 = .ok (.iload_n 1, 1) := by decide +kernel
theorem dX2_grounded_3 : decode cX2_grounded 3 = .ok (.aload_n 0, 1) := by decide +kernel
theorem dX2_grounded_4 : decode cX2_grounded 4 = .ok (.getfield 17, 3) := by decide +kernel
theorem dX2_grounded_7 : decode cX2_grounded 7 = .ok (.if_icmp .gt 75, 3) := by decide +kernel
theorem dX2_grounded_10 : decode cX2_grounded 10 = .ok (.aload_n 0, 1) := by decide +kernel
theorem dX2_grounded_11 : decode cX2_grounded 11 = .ok (.iload_n 1, 1) := by decide +kernel
theorem dX2_grounded_12 : decode cX2_grounded 12 = .ok (.invokevirtual 35, 3) := by decide +kernel
theorem dX2_grounded_15 : decode cX2_grounded 15 = .ok (.iload_n 1, 1) := by decide +kernel
theorem dX2_grounded_16 : decode cX2_grounded 16 = .ok (.iconst (-1), 1) := by decide +kernel
theorem dX2_grounded_17 : decode cX2_grounded 17 = .ok (.ixor, 1) := by decide +kernel
theorem dX2_grounded_18 : decode cX2_grounded 18 = .ok (.iand, 1) := by decide +kernel
theorem dX2_grounded_19 : decode cX2_grounded 19 = .ok (.ifCond .ne 7, 3) := by decide +kernel
theorem dX2_grounded_22 : decode cX2_grounded 22 = .ok (.iconst 1, 1) := by decide +kernel
theorem dX2_grounded_23 : decode cX2_grounded 23 = .ok (.goto 4, 3) := by decide +kernel
theorem dX2_grounded_26 : decode cX2_grounded 26 = .ok (.iconst 0, 1) := by decide +kernel
theorem dX2_grounded_27 : decode cX2_grounded 27 = .ok (.istore_n 2, 1) := by decide +kernel
theorem dX2_grounded_28 : decode cX2_grounded 28 = .ok (.iconst 0, 1) := by decide +kernel
theorem dX2_grounded_29 : decode cX2_grounded 29 = .ok (.istore_n 3, 1) := by decide +kernel
theorem dX2_grounded_30 : decode cX2_grounded 30 = .ok (.iload_n 3, 1) := by decide +kernel
theorem dX2_grounded_31 : decode cX2_grounded 31 = .ok (.aload_n 0, 1) := by decide +kernel
theorem dX2_grounded_32 : decode cX2_grounded 32 = .ok (.getfield 17, 3) := by decide +kernel
theorem dX2_grounded_35 : decode cX2_grounded 35 = .ok (.if_icmp .gt 35, 3) := by decide +kernel
theorem dX2_grounded_38 : decode cX2_grounded 38 = .ok (.iload_n 2, 1) := by decide +kernel
theorem dX2_grounded_39 : decode cX2_grounded 39 = .ok (.ifCond .eq 31, 3) := by decide +kernel
theorem dX2_grounded_42 : decode cX2_grounded 42 = .ok (.aload_n 0, 1) := by decide +kernel
theorem dX2_grounded_43 : decode cX2_grounded 43 = .ok (.iload_n 3, 1) := by decide +kernel
theorem dX2_grounded_44 : decode cX2_grounded 44 = .ok (.invokevirtual 35, 3) := by decide +kernel
theorem dX2_grounded_47 : decode cX2_grounded 47 = .ok (.iload_n 3, 1) := by decide +kernel
theorem dX2_grounded_48 : decode cX2_grounded 48 = .ok (.iconst (-1), 1) := by decide +kernel
theorem dX2_grounded_49 : decode cX2_grounded 49 = .ok (.ixor, 1) := by decide +kernel
theorem dX2_grounded_50 : decode cX2_grounded 50 = .ok (.iand, 1) := by decide +kernel
theorem dX2_grounded_51 : decode cX2_grounded 51 = .ok (.ifCond .ne 13, 3) := by decide +kernel
theorem dX2_grounded_54 : decode cX2_grounded 54 = .ok (.iload_n 1, 1) := by decide +kernel
theorem dX2_grounded_55 : decode cX2_grounded 55 = .ok (.iload_n 3, 1) := by decide +kernel
theorem dX2_grounded_56 : decode cX2_grounded 56 = .ok (.iconst (-1), 1) := by decide +kernel
theorem dX2_grounded_57 : decode cX2_grounded 57 = .ok (.ixor, 1) := by decide +kernel
theorem dX2_grounded_58 : decode cX2_grounded 58 = .ok (.iand, 1) := by decide +kernel
theorem dX2_grounded_59 : decode cX2_grounded 59 = .ok (.ifCond .eq 5, 3) := by decide +kernel
theorem dX2_grounded_62 : decode cX2_grounded 62 = .ok (.iconst 0, 1) := by decide +kernel
theorem dX2_grounded_63 : decode cX2_grounded 63 = .ok (.istore_n 2, 1) := by decide +kernel
theorem dX2_grounded_64 : decode cX2_grounded 64 = .ok (.iinc 3 1, 3) := by decide +kernel
theorem dX2_grounded_67 : decode cX2_grounded 67 = .ok (.goto (-37), 3) := by decide +kernel
theorem dX2_grounded_70 : decode cX2_grounded 70 = .ok (.iload_n 2, 1) := by decide +kernel
theorem dX2_grounded_71 : decode cX2_grounded 71 = .ok (.ifCond .eq 5, 3) := by decide +kernel
theorem dX2_grounded_74 : decode cX2_grounded 74 = .ok (.iload_n 1, 1) := by decide +kernel
theorem dX2_grounded_75 : decode cX2_grounded 75 = .ok (.ireturn, 1) := by decide +kernel
theorem dX2_grounded_76 : decode cX2_grounded 76 = .ok (.iinc 1 1, 3) := by decide +kernel
theorem dX2_grounded_79 : decode cX2_grounded 79 = .ok (.goto (-77), 3) := by decide +kernel
theorem dX2_grounded_82 : decode cX2_grounded 82 = .ok (.aload_n 0, 1) := by decide +kernel
theorem dX2_grounded_83 : decode cX2_grounded 83 = .ok (.getfield 17, 3) := by decide +kernel
theorem dX2_grounded_86 : decode cX2_grounded 86 = .ok (.ireturn, 1) := by decide +kernel
abbrev cX2_defended : ByteArray := prog_3_method_8_code
def yX2_defended : MethodName := ⟨RX2, "defended", "(I)I"⟩
theorem dX2_defended_0 : decode cX2_defended 0 = .ok (.aload_n 0, 1) := by decide +kernel
theorem dX2_defended_1 : decode cX2_defended 1 = .ok (.iload_n 1, 1) := by decide +kernel
theorem dX2_defended_2 : decode cX2_defended 2 = .ok (.invokevirtual 28, 3) := by decide +kernel
theorem dX2_defended_5 : decode cX2_defended 5 = .ok (.istore_n 2, 1) := by decide +kernel
theorem dX2_defended_6 : decode cX2_defended 6 = .ok (.aload_n 0, 1) := by decide +kernel
theorem dX2_defended_7 : decode cX2_defended 7 = .ok (.getfield 17, 3) := by decide +kernel
theorem dX2_defended_10 : decode cX2_defended 10 = .ok (.istore_n 3, 1) := by decide +kernel
theorem dX2_defended_11 : decode cX2_defended 11 = .ok (.iconst 0, 1) := by decide +kernel
theorem dX2_defended_12 : decode cX2_defended 12 = .ok (.istore 4, 2) := by decide +kernel
theorem dX2_defended_14 : decode cX2_defended 14 = .ok (.iload 4, 2) := by decide +kernel
theorem dX2_defended_16 : decode cX2_defended 16 = .ok (.bipush 64, 2) := by decide +kernel
theorem dX2_defended_18 : decode cX2_defended 18 = .ok (.if_icmp .ge 43, 3) := by decide +kernel
theorem dX2_defended_21 : decode cX2_defended 21 = .ok (.aload_n 0, 1) := by decide +kernel
theorem dX2_defended_22 : decode cX2_defended 22 = .ok (.getfield 7, 3) := by decide +kernel
theorem dX2_defended_25 : decode cX2_defended 25 = .ok (.iload 4, 2) := by decide +kernel
theorem dX2_defended_27 : decode cX2_defended 27 = .ok (.baload, 1) := by decide +kernel
theorem dX2_defended_28 : decode cX2_defended 28 = .ok (.ifCond .eq 27, 3) := by decide +kernel
theorem dX2_defended_31 : decode cX2_defended 31 = .ok (.aload_n 0, 1) := by decide +kernel
theorem dX2_defended_32 : decode cX2_defended 32 = .ok (.iload_n 2, 1) := by decide +kernel
theorem dX2_defended_33 : decode cX2_defended 33 = .ok (.iload 4, 2) := by decide +kernel
theorem dX2_defended_35 : decode cX2_defended 35 = .ok (.iconst 3, 1) := by decide +kernel
theorem dX2_defended_36 : decode cX2_defended 36 = .ok (.ishr, 1) := by decide +kernel
theorem dX2_defended_37 : decode cX2_defended 37 = .ok (.invokevirtual 24, 3) := by decide +kernel
theorem dX2_defended_40 : decode cX2_defended 40 = .ok (.ifCond .ne 15, 3) := by decide +kernel
theorem dX2_defended_43 : decode cX2_defended 43 = .ok (.iload_n 3, 1) := by decide +kernel
theorem dX2_defended_44 : decode cX2_defended 44 = .ok (.iconst 1, 1) := by decide +kernel
theorem dX2_defended_45 : decode cX2_defended 45 = .ok (.iload 4, 2) := by decide +kernel
theorem dX2_defended_47 : decode cX2_defended 47 = .ok (.bipush 7, 2) := by decide +kernel
theorem dX2_defended_49 : decode cX2_defended 49 = .ok (.iand, 1) := by decide +kernel
theorem dX2_defended_50 : decode cX2_defended 50 = .ok (.ishl, 1) := by decide +kernel
theorem dX2_defended_51 : decode cX2_defended 51 = .ok (.iconst (-1), 1) := by decide +kernel
theorem dX2_defended_52 : decode cX2_defended 52 = .ok (.ixor, 1) := by decide +kernel
theorem dX2_defended_53 : decode cX2_defended 53 = .ok (.iand, 1) := by decide +kernel
theorem dX2_defended_54 : decode cX2_defended 54 = .ok (.istore_n 3, 1) := by decide +kernel
theorem dX2_defended_55 : decode cX2_defended 55 = .ok (.iinc 4 1, 3) := by decide +kernel
theorem dX2_defended_58 : decode cX2_defended 58 = .ok (.goto (-44), 3) := by decide +kernel
theorem dX2_defended_61 : decode cX2_defended 61 = .ok (.iload_n 3, 1) := by decide +kernel
theorem dX2_defended_62 : decode cX2_defended 62 = .ok (.ireturn, 1) := by decide +kernel
abbrev cX2_attacked : ByteArray := prog_3_method_7_code
def yX2_attacked : MethodName := ⟨RX2, "attacked", "(I)I"⟩
theorem dX2_attacked_0 : decode cX2_attacked 0 = .ok (.iconst 0, 1) := by decide +kernel
theorem dX2_attacked_1 : decode cX2_attacked 1 = .ok (.istore_n 2, 1) := by decide +kernel
theorem dX2_attacked_2 : decode cX2_attacked 2 = .ok (.iconst 0, 1) := by decide +kernel
theorem dX2_attacked_3 : decode cX2_attacked 3 = .ok (.istore_n 3, 1) := by decide +kernel
theorem dX2_attacked_4 : decode cX2_attacked 4 = .ok (.iload_n 3, 1) := by decide +kernel
theorem dX2_attacked_5 : decode cX2_attacked 5 = .ok (.bipush 64, 2) := by decide +kernel
theorem dX2_attacked_7 : decode cX2_attacked 7 = .ok (.if_icmp .ge 38, 3) := by decide +kernel
theorem dX2_attacked_10 : decode cX2_attacked 10 = .ok (.aload_n 0, 1) := by decide +kernel
theorem dX2_attacked_11 : decode cX2_attacked 11 = .ok (.getfield 7, 3) := by decide +kernel
theorem dX2_attacked_14 : decode cX2_attacked 14 = .ok (.iload_n 3, 1) := by decide +kernel
theorem dX2_attacked_15 : decode cX2_attacked 15 = .ok (.baload, 1) := by decide +kernel
theorem dX2_attacked_16 : decode cX2_attacked 16 = .ok (.ifCond .eq 23, 3) := by decide +kernel
theorem dX2_attacked_19 : decode cX2_attacked 19 = .ok (.aload_n 0, 1) := by decide +kernel
theorem dX2_attacked_20 : decode cX2_attacked 20 = .ok (.iload_n 1, 1) := by decide +kernel
theorem dX2_attacked_21 : decode cX2_attacked 21 = .ok (.iload_n 3, 1) := by decide +kernel
theorem dX2_attacked_22 : decode cX2_attacked 22 = .ok (.iconst 3, 1) := by decide +kernel
theorem dX2_attacked_23 : decode cX2_attacked 23 = .ok (.ishr, 1) := by decide +kernel
theorem dX2_attacked_24 : decode cX2_attacked 24 = .ok (.invokevirtual 24, 3) := by decide +kernel
theorem dX2_attacked_27 : decode cX2_attacked 27 = .ok (.ifCond .eq 12, 3) := by decide +kernel
theorem dX2_attacked_30 : decode cX2_attacked 30 = .ok (.iload_n 2, 1) := by decide +kernel
theorem dX2_attacked_31 : decode cX2_attacked 31 = .ok (.iconst 1, 1) := by decide +kernel
theorem dX2_attacked_32 : decode cX2_attacked 32 = .ok (.iload_n 3, 1) := by decide +kernel
theorem dX2_attacked_33 : decode cX2_attacked 33 = .ok (.bipush 7, 2) := by decide +kernel
theorem dX2_attacked_35 : decode cX2_attacked 35 = .ok (.iand, 1) := by decide +kernel
theorem dX2_attacked_36 : decode cX2_attacked 36 = .ok (.ishl, 1) := by decide +kernel
theorem dX2_attacked_37 : decode cX2_attacked 37 = .ok (.ior, 1) := by decide +kernel
theorem dX2_attacked_38 : decode cX2_attacked 38 = .ok (.istore_n 2, 1) := by decide +kernel
theorem dX2_attacked_39 : decode cX2_attacked 39 = .ok (.iinc 3 1, 3) := by decide +kernel
theorem dX2_attacked_42 : decode cX2_attacked 42 = .ok (.goto (-38), 3) := by decide +kernel
theorem dX2_attacked_45 : decode cX2_attacked 45 = .ok (.iload_n 2, 1) := by decide +kernel
theorem dX2_attacked_46 : decode cX2_attacked 46 = .ok (.ireturn, 1) := by decide +kernel
abbrev cX2_in : ByteArray := prog_3_method_3_code
def yX2_in : MethodName := ⟨RX2, "in", "(II)Z"⟩
theorem dX2_in_0 : decode cX2_in 0 = .ok (.iload_n 1, 1) := by decide +kernel
theorem dX2_in_1 : decode cX2_in 1 = .ok (.iload_n 2, 1) := by decide +kernel
theorem dX2_in_2 : decode cX2_in 2 = .ok (.ishr, 1) := by decide +kernel
theorem dX2_in_3 : decode cX2_in 3 = .ok (.iconst 1, 1) := by decide +kernel
theorem dX2_in_4 : decode cX2_in 4 = .ok (.iand, 1) := by decide +kernel
theorem dX2_in_5 : decode cX2_in 5 = .ok (.iconst 1, 1) := by decide +kernel
theorem dX2_in_6 : decode cX2_in 6 = .ok (.if_icmp .ne 7, 3) := by decide +kernel
theorem dX2_in_9 : decode cX2_in 9 = .ok (.iconst 1, 1) := by decide +kernel
theorem dX2_in_10 : decode cX2_in 10 = .ok (.goto 4, 3) := by decide +kernel
theorem dX2_in_13 : decode cX2_in 13 = .ok (.iconst 0, 1) := by decide +kernel
theorem dX2_in_14 : decode cX2_in 14 = .ok (.ireturn, 1) := by decide +kernel
abbrev cX2_count : ByteArray := prog_3_method_16_code
def yX2_count : MethodName := ⟨RX2, "count", "(I)I"⟩
theorem dX2_count_0 : decode cX2_count 0 = .ok (.aload_n 0, 1) := by decide +kernel
theorem dX2_count_1 : decode cX2_count 1 = .ok (.iload_n 1, 1) := by decide +kernel
theorem dX2_count_2 : decode cX2_count 2 = .ok (.invokevirtual 47, 3) := by decide +kernel
theorem dX2_count_5 : decode cX2_count 5 = .ok (.ifCond .ne 5, 3) := by decide +kernel
theorem dX2_count_8 : decode cX2_count 8 = .ok (.iconst (-1), 1) := by decide +kernel
theorem dX2_count_9 : decode cX2_count 9 = .ok (.ireturn, 1) := by decide +kernel
theorem dX2_count_10 : decode cX2_count 10 = .ok (.iconst 0, 1) := by decide +kernel
theorem dX2_count_11 : decode cX2_count 11 = .ok (.istore_n 2, 1) := by decide +kernel
theorem dX2_count_12 : decode cX2_count 12 = .ok (.iconst 0, 1) := by decide +kernel
theorem dX2_count_13 : decode cX2_count 13 = .ok (.istore_n 3, 1) := by decide +kernel
theorem dX2_count_14 : decode cX2_count 14 = .ok (.iload_n 3, 1) := by decide +kernel
theorem dX2_count_15 : decode cX2_count 15 = .ok (.aload_n 0, 1) := by decide +kernel
theorem dX2_count_16 : decode cX2_count 16 = .ok (.getfield 17, 3) := by decide +kernel
theorem dX2_count_19 : decode cX2_count 19 = .ok (.if_icmp .gt 21, 3) := by decide +kernel
theorem dX2_count_22 : decode cX2_count 22 = .ok (.aload_n 0, 1) := by decide +kernel
theorem dX2_count_23 : decode cX2_count 23 = .ok (.iload_n 1, 1) := by decide +kernel
theorem dX2_count_24 : decode cX2_count 24 = .ok (.iload_n 3, 1) := by decide +kernel
theorem dX2_count_25 : decode cX2_count 25 = .ok (.invokevirtual 50, 3) := by decide +kernel
theorem dX2_count_28 : decode cX2_count 28 = .ok (.ifCond .eq 6, 3) := by decide +kernel
theorem dX2_count_31 : decode cX2_count 31 = .ok (.iinc 2 1, 3) := by decide +kernel
theorem dX2_count_34 : decode cX2_count 34 = .ok (.iinc 3 1, 3) := by decide +kernel
theorem dX2_count_37 : decode cX2_count 37 = .ok (.goto (-23), 3) := by decide +kernel
theorem dX2_count_40 : decode cX2_count 40 = .ok (.iload_n 2, 1) := by decide +kernel
theorem dX2_count_41 : decode cX2_count 41 = .ok (.ireturn, 1) := by decide +kernel
abbrev cX2_isKind : ByteArray := prog_3_method_15_code
def yX2_isKind : MethodName := ⟨RX2, "isKind", "(I)Z"⟩
theorem dX2_isKind_0 : decode cX2_isKind 0 = .ok (.iload_n 1, 1) := by decide +kernel
theorem dX2_isKind_1 : decode cX2_isKind 1 = .ok (.ifCond .lt 12, 3) := by decide +kernel
theorem dX2_isKind_4 : decode cX2_isKind 4 = .ok (.iload_n 1, 1) := by decide +kernel
theorem dX2_isKind_5 : decode cX2_isKind 5 = .ok (.iconst 3, 1) := by decide +kernel
theorem dX2_isKind_6 : decode cX2_isKind 6 = .ok (.if_icmp .gt 7, 3) := by decide +kernel
theorem dX2_isKind_9 : decode cX2_isKind 9 = .ok (.iconst 1, 1) := by decide +kernel
theorem dX2_isKind_10 : decode cX2_isKind 10 = .ok (.goto 4, 3) := by decide +kernel
theorem dX2_isKind_13 : decode cX2_isKind 13 = .ok (.iconst 0, 1) := by decide +kernel
theorem dX2_isKind_14 : decode cX2_isKind 14 = .ok (.ireturn, 1) := by decide +kernel
abbrev cX2_is : ByteArray := prog_3_method_13_code
def yX2_is : MethodName := ⟨RX2, "is", "(II)Z"⟩
theorem dX2_is_0 : decode cX2_is 0 = .ok (.iload_n 1, 1) := by decide +kernel
theorem dX2_is_1 : decode cX2_is 1 = .ok (.iconst 2, 1) := by decide +kernel
theorem dX2_is_2 : decode cX2_is 2 = .ok (.if_icmp .ne 31, 3) := by decide +kernel
theorem dX2_is_5 : decode cX2_is 5 = .ok (.aload_n 0, 1) := by decide +kernel
theorem dX2_is_6 : decode cX2_is 6 = .ok (.iload_n 2, 1) := by decide +kernel
theorem dX2_is_7 : decode cX2_is 7 = .ok (.invokevirtual 32, 3) := by decide +kernel
theorem dX2_is_10 : decode cX2_is 10 = .ok (.ifCond .eq 21, 3) := by decide +kernel
theorem dX2_is_13 : decode cX2_is 13 = .ok (.iload_n 2, 1) := by decide +kernel
theorem dX2_is_14 : decode cX2_is 14 = .ok (.aload_n 0, 1) := by decide +kernel
theorem dX2_is_15 : decode cX2_is 15 = .ok (.iload_n 2, 1) := by decide +kernel
theorem dX2_is_16 : decode cX2_is 16 = .ok (.invokevirtual 28, 3) := by decide +kernel
theorem dX2_is_19 : decode cX2_is 19 = .ok (.ior, 1) := by decide +kernel
theorem dX2_is_20 : decode cX2_is 20 = .ok (.aload_n 0, 1) := by decide +kernel
theorem dX2_is_21 : decode cX2_is 21 = .ok (.getfield 17, 3) := by decide +kernel
theorem dX2_is_24 : decode cX2_is 24 = .ok (.if_icmp .ne 7, 3) := by decide +kernel
theorem dX2_is_27 : decode cX2_is 27 = .ok (.iconst 1, 1) := by decide +kernel
theorem dX2_is_28 : decode cX2_is 28 = .ok (.goto 4, 3) := by decide +kernel
theorem dX2_is_31 : decode cX2_is 31 = .ok (.iconst 0, 1) := by decide +kernel
theorem dX2_is_32 : decode cX2_is 32 = .ok (.ireturn, 1) := by decide +kernel
theorem dX2_is_33 : decode cX2_is 33 = .ok (.aload_n 0, 1) := by decide +kernel
theorem dX2_is_34 : decode cX2_is 34 = .ok (.iload_n 2, 1) := by decide +kernel
theorem dX2_is_35 : decode cX2_is 35 = .ok (.invokevirtual 38, 3) := by decide +kernel
theorem dX2_is_38 : decode cX2_is 38 = .ok (.ifCond .ne 5, 3) := by decide +kernel
theorem dX2_is_41 : decode cX2_is 41 = .ok (.iconst 0, 1) := by decide +kernel
theorem dX2_is_42 : decode cX2_is 42 = .ok (.ireturn, 1) := by decide +kernel
theorem dX2_is_43 : decode cX2_is 43 = .ok (.iload_n 1, 1) := by decide +kernel
theorem dX2_is_44 : decode cX2_is 44 = .ok (.ifCond .ne 18, 3) := by decide +kernel
theorem dX2_is_47 : decode cX2_is 47 = .ok (.aload_n 0, 1) := by decide +kernel
theorem dX2_is_48 : decode cX2_is 48 = .ok (.iload_n 2, 1) := by decide +kernel
theorem dX2_is_49 : decode cX2_is 49 = .ok (.invokevirtual 35, 3) := by decide +kernel
theorem dX2_is_52 : decode cX2_is 52 = .ok (.iload_n 2, 1) := by decide +kernel
theorem dX2_is_53 : decode cX2_is 53 = .ok (.if_icmp .ne 7, 3) := by decide +kernel
theorem dX2_is_56 : decode cX2_is 56 = .ok (.iconst 1, 1) := by decide +kernel
theorem dX2_is_57 : decode cX2_is 57 = .ok (.goto 4, 3) := by decide +kernel
theorem dX2_is_60 : decode cX2_is 60 = .ok (.iconst 0, 1) := by decide +kernel
theorem dX2_is_61 : decode cX2_is 61 = .ok (.ireturn, 1) := by decide +kernel
theorem dX2_is_62 : decode cX2_is 62 = .ok (.iload_n 1, 1) := by decide +kernel
theorem dX2_is_63 : decode cX2_is 63 = .ok (.iconst 1, 1) := by decide +kernel
theorem dX2_is_64 : decode cX2_is 64 = .ok (.if_icmp .ne 11, 3) := by decide +kernel
theorem dX2_is_67 : decode cX2_is 67 = .ok (.aload_n 0, 1) := by decide +kernel
theorem dX2_is_68 : decode cX2_is 68 = .ok (.iload_n 2, 1) := by decide +kernel
theorem dX2_is_69 : decode cX2_is 69 = .ok (.invokevirtual 41, 3) := by decide +kernel
theorem dX2_is_72 : decode cX2_is 72 = .ok (.goto 8, 3) := by decide +kernel
theorem dX2_is_75 : decode cX2_is 75 = .ok (.aload_n 0, 1) := by decide +kernel
theorem dX2_is_76 : decode cX2_is 76 = .ok (.iload_n 2, 1) := by decide +kernel
theorem dX2_is_77 : decode cX2_is 77 = .ok (.invokevirtual 44, 3) := by decide +kernel
theorem dX2_is_80 : decode cX2_is 80 = .ok (.ireturn, 1) := by decide +kernel
abbrev cX2_conflictFree : ByteArray := prog_3_method_9_code
def yX2_conflictFree : MethodName := ⟨RX2, "conflictFree", "(I)Z"⟩
theorem dX2_conflictFree_0 : decode cX2_conflictFree 0 = .ok (.aload_n 0, 1) := by decide +kernel
theorem dX2_conflictFree_1 : decode cX2_conflictFree 1 = .ok (.iload_n 1, 1) := by decide +kernel
theorem dX2_conflictFree_2 : decode cX2_conflictFree 2 = .ok (.invokevirtual 28, 3) := by decide +kernel
theorem dX2_conflictFree_5 : decode cX2_conflictFree 5 = .ok (.iload_n 1, 1) := by decide +kernel
theorem dX2_conflictFree_6 : decode cX2_conflictFree 6 = .ok (.iand, 1) := by decide +kernel
theorem dX2_conflictFree_7 : decode cX2_conflictFree 7 = .ok (.ifCond .ne 7, 3) := by decide +kernel
theorem dX2_conflictFree_10 : decode cX2_conflictFree 10 = .ok (.iconst 1, 1) := by decide +kernel
theorem dX2_conflictFree_11 : decode cX2_conflictFree 11 = .ok (.goto 4, 3) := by decide +kernel
theorem dX2_conflictFree_14 : decode cX2_conflictFree 14 = .ok (.iconst 0, 1) := by decide +kernel
theorem dX2_conflictFree_15 : decode cX2_conflictFree 15 = .ok (.ireturn, 1) := by decide +kernel
abbrev cX2_admissible : ByteArray := prog_3_method_10_code
def yX2_admissible : MethodName := ⟨RX2, "admissible", "(I)Z"⟩
theorem dX2_admissible_0 : decode cX2_admissible 0 = .ok (.aload_n 0, 1) := by decide +kernel
theorem dX2_admissible_1 : decode cX2_admissible 1 = .ok (.iload_n 1, 1) := by decide +kernel
theorem dX2_admissible_2 : decode cX2_admissible 2 = .ok (.invokevirtual 32, 3) := by decide +kernel
theorem dX2_admissible_5 : decode cX2_admissible 5 = .ok (.ifCond .eq 19, 3) := by decide +kernel
theorem dX2_admissible_8 : decode cX2_admissible 8 = .ok (.iload_n 1, 1) := by decide +kernel
theorem dX2_admissible_9 : decode cX2_admissible 9 = .ok (.aload_n 0, 1) := by decide +kernel
theorem dX2_admissible_10 : decode cX2_admissible 10 = .ok (.iload_n 1, 1) := by decide +kernel
theorem dX2_admissible_11 : decode cX2_admissible 11 = .ok (.invokevirtual 35, 3) := by decide +kernel
theorem dX2_admissible_14 : decode cX2_admissible 14 = .ok (.iconst (-1), 1) := by decide +kernel
theorem dX2_admissible_15 : decode cX2_admissible 15 = .ok (.ixor, 1) := by decide +kernel
theorem dX2_admissible_16 : decode cX2_admissible 16 = .ok (.iand, 1) := by decide +kernel
theorem dX2_admissible_17 : decode cX2_admissible 17 = .ok (.ifCond .ne 7, 3) := by decide +kernel
theorem dX2_admissible_20 : decode cX2_admissible 20 = .ok (.iconst 1, 1) := by decide +kernel
theorem dX2_admissible_21 : decode cX2_admissible 21 = .ok (.goto 4, 3) := by decide +kernel
theorem dX2_admissible_24 : decode cX2_admissible 24 = .ok (.iconst 0, 1) := by decide +kernel
theorem dX2_admissible_25 : decode cX2_admissible 25 = .ok (.ireturn, 1) := by decide +kernel
abbrev cX2_maximal : ByteArray := prog_3_method_11_code
def yX2_maximal : MethodName := ⟨RX2, "maximal", "(I)Z"⟩
theorem dX2_maximal_0 : decode cX2_maximal 0 = .ok (.iconst 0, 1) := by decide +kernel
theorem dX2_maximal_1 : decode cX2_maximal 1 = .ok (.istore_n 2, 1) := by decide +kernel
theorem dX2_maximal_2 : decode cX2_maximal 2 = .ok (.iload_n 2, 1) := by decide +kernel
theorem dX2_maximal_3 : decode cX2_maximal 3 = .ok (.aload_n 0, 1) := by decide +kernel
theorem dX2_maximal_4 : decode cX2_maximal 4 = .ok (.getfield 17, 3) := by decide +kernel
theorem dX2_maximal_7 : decode cX2_maximal 7 = .ok (.if_icmp .gt 32, 3) := by decide +kernel
theorem dX2_maximal_10 : decode cX2_maximal 10 = .ok (.iload_n 2, 1) := by decide +kernel
theorem dX2_maximal_11 : decode cX2_maximal 11 = .ok (.iload_n 1, 1) := by decide +kernel
theorem dX2_maximal_12 : decode cX2_maximal 12 = .ok (.if_icmp .eq 21, 3) := by decide +kernel
theorem dX2_maximal_15 : decode cX2_maximal 15 = .ok (.iload_n 1, 1) := by decide +kernel
theorem dX2_maximal_16 : decode cX2_maximal 16 = .ok (.iload_n 2, 1) := by decide +kernel
theorem dX2_maximal_17 : decode cX2_maximal 17 = .ok (.iconst (-1), 1) := by decide +kernel
theorem dX2_maximal_18 : decode cX2_maximal 18 = .ok (.ixor, 1) := by decide +kernel
theorem dX2_maximal_19 : decode cX2_maximal 19 = .ok (.iand, 1) := by decide +kernel
theorem dX2_maximal_20 : decode cX2_maximal 20 = .ok (.ifCond .ne 13, 3) := by decide +kernel
theorem dX2_maximal_23 : decode cX2_maximal 23 = .ok (.aload_n 0, 1) := by decide +kernel
theorem dX2_maximal_24 : decode cX2_maximal 24 = .ok (.iload_n 2, 1) := by decide +kernel
theorem dX2_maximal_25 : decode cX2_maximal 25 = .ok (.invokevirtual 38, 3) := by decide +kernel
theorem dX2_maximal_28 : decode cX2_maximal 28 = .ok (.ifCond .eq 5, 3) := by decide +kernel
theorem dX2_maximal_31 : decode cX2_maximal 31 = .ok (.iconst 0, 1) := by decide +kernel
theorem dX2_maximal_32 : decode cX2_maximal 32 = .ok (.ireturn, 1) := by decide +kernel
theorem dX2_maximal_33 : decode cX2_maximal 33 = .ok (.iinc 2 1, 3) := by decide +kernel
theorem dX2_maximal_36 : decode cX2_maximal 36 = .ok (.goto (-34), 3) := by decide +kernel
theorem dX2_maximal_39 : decode cX2_maximal 39 = .ok (.iconst 1, 1) := by decide +kernel
theorem dX2_maximal_40 : decode cX2_maximal 40 = .ok (.ireturn, 1) := by decide +kernel
abbrev cX2_widest : ByteArray := prog_3_method_12_code
def yX2_widest : MethodName := ⟨RX2, "widest", "(I)Z"⟩
theorem dX2_widest_0 : decode cX2_widest 0 = .ok (.iload_n 1, 1) := by decide +kernel
theorem dX2_widest_1 : decode cX2_widest 1 = .ok (.aload_n 0, 1) := by decide +kernel
theorem dX2_widest_2 : decode cX2_widest 2 = .ok (.iload_n 1, 1) := by decide +kernel
theorem dX2_widest_3 : decode cX2_widest 3 = .ok (.invokevirtual 28, 3) := by decide +kernel
theorem dX2_widest_6 : decode cX2_widest 6 = .ok (.ior, 1) := by decide +kernel
theorem dX2_widest_7 : decode cX2_widest 7 = .ok (.istore_n 2, 1) := by decide +kernel
theorem dX2_widest_8 : decode cX2_widest 8 = .ok (.iconst 0, 1) := by decide +kernel
theorem dX2_widest_9 : decode cX2_widest 9 = .ok (.istore_n 3, 1) := by decide +kernel
theorem dX2_widest_10 : decode cX2_widest 10 = .ok (.iload_n 3, 1) := by decide +kernel
theorem dX2_widest_11 : decode cX2_widest 11 = .ok (.aload_n 0, 1) := by decide +kernel
theorem dX2_widest_12 : decode cX2_widest 12 = .ok (.getfield 17, 3) := by decide +kernel
theorem dX2_widest_15 : decode cX2_widest 15 = .ok (.if_icmp .gt 43, 3) := by decide +kernel
theorem dX2_widest_18 : decode cX2_widest 18 = .ok (.iload_n 3, 1) := by decide +kernel
theorem dX2_widest_19 : decode cX2_widest 19 = .ok (.aload_n 0, 1) := by decide +kernel
theorem dX2_widest_20 : decode cX2_widest 20 = .ok (.iload_n 3, 1) := by decide +kernel
theorem dX2_widest_21 : decode cX2_widest 21 = .ok (.invokevirtual 28, 3) := by decide +kernel
theorem dX2_widest_24 : decode cX2_widest 24 = .ok (.ior, 1) := by decide +kernel
theorem dX2_widest_25 : decode cX2_widest 25 = .ok (.istore 4, 2) := by decide +kernel
theorem dX2_widest_27 : decode cX2_widest 27 = .ok (.iload 4, 2) := by decide +kernel
theorem dX2_widest_29 : decode cX2_widest 29 = .ok (.iload_n 2, 1) := by decide +kernel
theorem dX2_widest_30 : decode cX2_widest 30 = .ok (.if_icmp .eq 22, 3) := by decide +kernel
theorem dX2_widest_33 : decode cX2_widest 33 = .ok (.iload_n 2, 1) := by decide +kernel
theorem dX2_widest_34 : decode cX2_widest 34 = .ok (.iload 4, 2) := by decide +kernel
theorem dX2_widest_36 : decode cX2_widest 36 = .ok (.iconst (-1), 1) := by decide +kernel
theorem dX2_widest_37 : decode cX2_widest 37 = .ok (.ixor, 1) := by decide +kernel
theorem dX2_widest_38 : decode cX2_widest 38 = .ok (.iand, 1) := by decide +kernel
theorem dX2_widest_39 : decode cX2_widest 39 = .ok (.ifCond .ne 13, 3) := by decide +kernel
theorem dX2_widest_42 : decode cX2_widest 42 = .ok (.aload_n 0, 1) := by decide +kernel
theorem dX2_widest_43 : decode cX2_widest 43 = .ok (.iload_n 3, 1) := by decide +kernel
theorem dX2_widest_44 : decode cX2_widest 44 = .ok (.invokevirtual 38, 3) := by decide +kernel
theorem dX2_widest_47 : decode cX2_widest 47 = .ok (.ifCond .eq 5, 3) := by decide +kernel
theorem dX2_widest_50 : decode cX2_widest 50 = .ok (.iconst 0, 1) := by decide +kernel
theorem dX2_widest_51 : decode cX2_widest 51 = .ok (.ireturn, 1) := by decide +kernel
theorem dX2_widest_52 : decode cX2_widest 52 = .ok (.iinc 3 1, 3) := by decide +kernel
theorem dX2_widest_55 : decode cX2_widest 55 = .ok (.goto (-45), 3) := by decide +kernel
theorem dX2_widest_58 : decode cX2_widest 58 = .ok (.iconst 1, 1) := by decide +kernel
theorem dX2_widest_59 : decode cX2_widest 59 = .ok (.ireturn, 1) := by decide +kernel
end
section
set_option maxRecDepth 100000
abbrev cX2_extension : ByteArray := prog_3_method_17_code
def yX2_extension : MethodName := ⟨RX2, "extension", "(II)I"⟩
theorem dX2_extension_0 : decode cX2_extension 0 = .ok (.aload_n 0, 1) := by decide +kernel
theorem dX2_extension_1 : decode cX2_extension 1 = .ok (.iload_n 1, 1) := by decide +kernel
theorem dX2_extension_2 : decode cX2_extension 2 = .ok (.invokevirtual 47, 3) := by decide +kernel
theorem dX2_extension_5 : decode cX2_extension 5 = .ok (.ifCond .ne 5, 3) := by decide +kernel
theorem dX2_extension_8 : decode cX2_extension 8 = .ok (.iconst (-1), 1) := by decide +kernel
theorem dX2_extension_9 : decode cX2_extension 9 = .ok (.ireturn, 1) := by decide +kernel
theorem dX2_extension_10 : decode cX2_extension 10 = .ok (.iconst 0, 1) := by decide +kernel
theorem dX2_extension_11 : decode cX2_extension 11 = .ok (.istore_n 3, 1) := by decide +kernel
theorem dX2_extension_12 : decode cX2_extension 12 = .ok (.iconst 0, 1) := by decide +kernel
theorem dX2_extension_13 : decode cX2_extension 13 = .ok (.istore 4, 2) := by decide +kernel
theorem dX2_extension_15 : decode cX2_extension 15 = .ok (.iload 4, 2) := by decide +kernel
theorem dX2_extension_17 : decode cX2_extension 17 = .ok (.aload_n 0, 1) := by decide +kernel
theorem dX2_extension_18 : decode cX2_extension 18 = .ok (.getfield 17, 3) := by decide +kernel
theorem dX2_extension_21 : decode cX2_extension 21 = .ok (.if_icmp .gt 30, 3) := by decide +kernel
theorem dX2_extension_24 : decode cX2_extension 24 = .ok (.aload_n 0, 1) := by decide +kernel
theorem dX2_extension_25 : decode cX2_extension 25 = .ok (.iload_n 1, 1) := by decide +kernel
theorem dX2_extension_26 : decode cX2_extension 26 = .ok (.iload 4, 2) := by decide +kernel
theorem dX2_extension_28 : decode cX2_extension 28 = .ok (.invokevirtual 50, 3) := by decide +kernel
theorem dX2_extension_31 : decode cX2_extension 31 = .ok (.ifCond .eq 14, 3) := by decide +kernel
theorem dX2_extension_34 : decode cX2_extension 34 = .ok (.iload_n 3, 1) := by decide +kernel
theorem dX2_extension_35 : decode cX2_extension 35 = .ok (.iload_n 2, 1) := by decide +kernel
theorem dX2_extension_36 : decode cX2_extension 36 = .ok (.if_icmp .ne 6, 3) := by decide +kernel
theorem dX2_extension_39 : decode cX2_extension 39 = .ok (.iload 4, 2) := by decide +kernel
theorem dX2_extension_41 : decode cX2_extension 41 = .ok (.ireturn, 1) := by decide +kernel
theorem dX2_extension_42 : decode cX2_extension 42 = .ok (.iinc 3 1, 3) := by decide +kernel
theorem dX2_extension_45 : decode cX2_extension 45 = .ok (.iinc 4 1, 3) := by decide +kernel
theorem dX2_extension_48 : decode cX2_extension 48 = .ok (.goto (-33), 3) := by decide +kernel
theorem dX2_extension_51 : decode cX2_extension 51 = .ok (.bipush (-2), 2) := by decide +kernel
theorem dX2_extension_53 : decode cX2_extension 53 = .ok (.ireturn, 1) := by decide +kernel
abbrev cX2_inSome : ByteArray := prog_3_method_18_code
def yX2_inSome : MethodName := ⟨RX2, "inSome", "(I)I"⟩
theorem dX2_inSome_0 : decode cX2_inSome 0 = .ok (.aload_n 0, 1) := by decide +kernel
theorem dX2_inSome_1 : decode cX2_inSome 1 = .ok (.iload_n 1, 1) := by decide +kernel
theorem dX2_inSome_2 : decode cX2_inSome 2 = .ok (.invokevirtual 47, 3) := by decide +kernel
theorem dX2_inSome_5 : decode cX2_inSome 5 = .ok (.ifCond .ne 5, 3) := by decide +kernel
theorem dX2_inSome_8 : decode cX2_inSome 8 = .ok (.iconst (-1), 1) := by decide +kernel
theorem dX2_inSome_9 : decode cX2_inSome 9 = .ok (.ireturn, 1) := by decide +kernel
theorem dX2_inSome_10 : decode cX2_inSome 10 = .ok (.iconst 0, 1) := by decide +kernel
theorem dX2_inSome_11 : decode cX2_inSome 11 = .ok (.istore_n 2, 1) := by decide +kernel
theorem dX2_inSome_12 : decode cX2_inSome 12 = .ok (.iconst 0, 1) := by decide +kernel
theorem dX2_inSome_13 : decode cX2_inSome 13 = .ok (.istore_n 3, 1) := by decide +kernel
theorem dX2_inSome_14 : decode cX2_inSome 14 = .ok (.iload_n 3, 1) := by decide +kernel
theorem dX2_inSome_15 : decode cX2_inSome 15 = .ok (.aload_n 0, 1) := by decide +kernel
theorem dX2_inSome_16 : decode cX2_inSome 16 = .ok (.getfield 17, 3) := by decide +kernel
theorem dX2_inSome_19 : decode cX2_inSome 19 = .ok (.if_icmp .gt 22, 3) := by decide +kernel
theorem dX2_inSome_22 : decode cX2_inSome 22 = .ok (.aload_n 0, 1) := by decide +kernel
theorem dX2_inSome_23 : decode cX2_inSome 23 = .ok (.iload_n 1, 1) := by decide +kernel
theorem dX2_inSome_24 : decode cX2_inSome 24 = .ok (.iload_n 3, 1) := by decide +kernel
theorem dX2_inSome_25 : decode cX2_inSome 25 = .ok (.invokevirtual 50, 3) := by decide +kernel
theorem dX2_inSome_28 : decode cX2_inSome 28 = .ok (.ifCond .eq 7, 3) := by decide +kernel
theorem dX2_inSome_31 : decode cX2_inSome 31 = .ok (.iload_n 2, 1) := by decide +kernel
theorem dX2_inSome_32 : decode cX2_inSome 32 = .ok (.iload_n 3, 1) := by decide +kernel
theorem dX2_inSome_33 : decode cX2_inSome 33 = .ok (.ior, 1) := by decide +kernel
theorem dX2_inSome_34 : decode cX2_inSome 34 = .ok (.istore_n 2, 1) := by decide +kernel
theorem dX2_inSome_35 : decode cX2_inSome 35 = .ok (.iinc 3 1, 3) := by decide +kernel
theorem dX2_inSome_38 : decode cX2_inSome 38 = .ok (.goto (-24), 3) := by decide +kernel
theorem dX2_inSome_41 : decode cX2_inSome 41 = .ok (.iload_n 2, 1) := by decide +kernel
theorem dX2_inSome_42 : decode cX2_inSome 42 = .ok (.ireturn, 1) := by decide +kernel
abbrev cX2_inEvery : ByteArray := prog_3_method_19_code
def yX2_inEvery : MethodName := ⟨RX2, "inEvery", "(I)I"⟩
theorem dX2_inEvery_0 : decode cX2_inEvery 0 = .ok (.aload_n 0, 1) := by decide +kernel
theorem dX2_inEvery_1 : decode cX2_inEvery 1 = .ok (.iload_n 1, 1) := by decide +kernel
theorem dX2_inEvery_2 : decode cX2_inEvery 2 = .ok (.invokevirtual 47, 3) := by decide +kernel
theorem dX2_inEvery_5 : decode cX2_inEvery 5 = .ok (.ifCond .ne 5, 3) := by decide +kernel
theorem dX2_inEvery_8 : decode cX2_inEvery 8 = .ok (.iconst (-1), 1) := by decide +kernel
theorem dX2_inEvery_9 : decode cX2_inEvery 9 = .ok (.ireturn, 1) := by decide +kernel
theorem dX2_inEvery_10 : decode cX2_inEvery 10 = .ok (.aload_n 0, 1) := by decide +kernel
theorem dX2_inEvery_11 : decode cX2_inEvery 11 = .ok (.getfield 17, 3) := by decide +kernel
theorem dX2_inEvery_14 : decode cX2_inEvery 14 = .ok (.istore_n 2, 1) := by decide +kernel
theorem dX2_inEvery_15 : decode cX2_inEvery 15 = .ok (.iconst 0, 1) := by decide +kernel
theorem dX2_inEvery_16 : decode cX2_inEvery 16 = .ok (.istore_n 3, 1) := by decide +kernel
theorem dX2_inEvery_17 : decode cX2_inEvery 17 = .ok (.iload_n 3, 1) := by decide +kernel
theorem dX2_inEvery_18 : decode cX2_inEvery 18 = .ok (.aload_n 0, 1) := by decide +kernel
theorem dX2_inEvery_19 : decode cX2_inEvery 19 = .ok (.getfield 17, 3) := by decide +kernel
theorem dX2_inEvery_22 : decode cX2_inEvery 22 = .ok (.if_icmp .gt 22, 3) := by decide +kernel
theorem dX2_inEvery_25 : decode cX2_inEvery 25 = .ok (.aload_n 0, 1) := by decide +kernel
theorem dX2_inEvery_26 : decode cX2_inEvery 26 = .ok (.iload_n 1, 1) := by decide +kernel
theorem dX2_inEvery_27 : decode cX2_inEvery 27 = .ok (.iload_n 3, 1) := by decide +kernel
theorem dX2_inEvery_28 : decode cX2_inEvery 28 = .ok (.invokevirtual 50, 3) := by decide +kernel
theorem dX2_inEvery_31 : decode cX2_inEvery 31 = .ok (.ifCond .eq 7, 3) := by decide +kernel
theorem dX2_inEvery_34 : decode cX2_inEvery 34 = .ok (.iload_n 2, 1) := by decide +kernel
theorem dX2_inEvery_35 : decode cX2_inEvery 35 = .ok (.iload_n 3, 1) := by decide +kernel
theorem dX2_inEvery_36 : decode cX2_inEvery 36 = .ok (.iand, 1) := by decide +kernel
theorem dX2_inEvery_37 : decode cX2_inEvery 37 = .ok (.istore_n 2, 1) := by decide +kernel
theorem dX2_inEvery_38 : decode cX2_inEvery 38 = .ok (.iinc 3 1, 3) := by decide +kernel
theorem dX2_inEvery_41 : decode cX2_inEvery 41 = .ok (.goto (-24), 3) := by decide +kernel
theorem dX2_inEvery_44 : decode cX2_inEvery 44 = .ok (.iload_n 2, 1) := by decide +kernel
theorem dX2_inEvery_45 : decode cX2_inEvery 45 = .ok (.ireturn, 1) := by decide +kernel
abbrev cX2_clear : ByteArray := prog_3_method_20_code
def yX2_clear : MethodName := ⟨RX2, "clear", "()I"⟩
theorem dX2_clear_0 : decode cX2_clear 0 = .ok (.iconst 0, 1) := by decide +kernel
theorem dX2_clear_1 : decode cX2_clear 1 = .ok (.istore_n 1, 1) := by decide +kernel
theorem dX2_clear_2 : decode cX2_clear 2 = .ok (.iconst 0, 1) := by decide +kernel
theorem dX2_clear_3 : decode cX2_clear 3 = .ok (.istore_n 2, 1) := by decide +kernel
theorem dX2_clear_4 : decode cX2_clear 4 = .ok (.iload_n 2, 1) := by decide +kernel
theorem dX2_clear_5 : decode cX2_clear 5 = .ok (.bipush 64, 2) := by decide +kernel
theorem dX2_clear_7 : decode cX2_clear 7 = .ok (.if_icmp .ge 28, 3) := by decide +kernel
theorem dX2_clear_10 : decode cX2_clear 10 = .ok (.aload_n 0, 1) := by decide +kernel
theorem dX2_clear_11 : decode cX2_clear 11 = .ok (.getfield 7, 3) := by decide +kernel
theorem dX2_clear_14 : decode cX2_clear 14 = .ok (.iload_n 2, 1) := by decide +kernel
theorem dX2_clear_15 : decode cX2_clear 15 = .ok (.baload, 1) := by decide +kernel
theorem dX2_clear_16 : decode cX2_clear 16 = .ok (.ifCond .eq 6, 3) := by decide +kernel
theorem dX2_clear_19 : decode cX2_clear 19 = .ok (.iinc 1 1, 3) := by decide +kernel
theorem dX2_clear_22 : decode cX2_clear 22 = .ok (.aload_n 0, 1) := by decide +kernel
theorem dX2_clear_23 : decode cX2_clear 23 = .ok (.getfield 7, 3) := by decide +kernel
theorem dX2_clear_26 : decode cX2_clear 26 = .ok (.iload_n 2, 1) := by decide +kernel
theorem dX2_clear_27 : decode cX2_clear 27 = .ok (.iconst 0, 1) := by decide +kernel
theorem dX2_clear_28 : decode cX2_clear 28 = .ok (.bastore, 1) := by decide +kernel
theorem dX2_clear_29 : decode cX2_clear 29 = .ok (.iinc 2 1, 3) := by decide +kernel
theorem dX2_clear_32 : decode cX2_clear 32 = .ok (.goto (-28), 3) := by decide +kernel
theorem dX2_clear_35 : decode cX2_clear 35 = .ok (.iload_n 1, 1) := by decide +kernel
theorem dX2_clear_36 : decode cX2_clear 36 = .ok (.ireturn, 1) := by decide +kernel
theorem q20 : (Jvm.Cond.initialized "ArgumentLabellerModel") ∈ lw_all := lw_g (lw_at lw_m0 2 rfl) rfl
theorem q152 : (Jvm.Cond.instantiable "ArgumentLabellerModel" (3 : Nat)) ∈ lw_all := lw_g (lw_at lw_m0 134 rfl) rfl
theorem q154 : (Jvm.Cond.instanceMethod ({ cls := "ArgumentLabellerModel", name := "<init>", desc := "(I)V" } : Jvm.MethodName)) ∈ lw_all := lw_g (lw_at lw_m0 136 rfl) rfl
theorem q155 : (Jvm.Cond.code ({ cls := "ArgumentLabellerModel", name := "<init>", desc := "(I)V" } : Jvm.MethodName) prog_3_method_1_code (2 : Nat) (Option.none : Option Jvm.ClassFile.FieldType)) ∈ lw_all := lw_g (lw_at lw_m0 137 rfl) rfl
theorem q156 : (Jvm.Cond.methodLink "ArgumentLabellerModel" (1 : Nat) ({ cls := "java/lang/Object", name := "<init>", desc := "()V" } : Jvm.MethodName)) ∈ lw_all := lw_g (lw_at lw_m0 138 rfl) rfl
theorem q157 : (Jvm.Cond.fieldLink "ArgumentLabellerModel" (13 : Nat) "ArgumentLabellerModel" "n" "I") ∈ lw_all := lw_g (lw_at lw_m0 139 rfl) rfl
theorem q158 : (Jvm.Cond.fieldLink "ArgumentLabellerModel" (17 : Nat) "ArgumentLabellerModel" "all" "I") ∈ lw_all := lw_g (lw_at lw_m0 140 rfl) rfl
theorem q159 : (Jvm.Cond.fieldLink "ArgumentLabellerModel" (7 : Nat) "ArgumentLabellerModel" "there" "[Z") ∈ lw_all := lw_g (lw_at lw_m0 141 rfl) rfl
theorem q160 : (Jvm.Cond.lays "ArgumentLabellerModel" "ArgumentLabellerModel" "n" "I") ∈ lw_all := lw_g (lw_at lw_m0 142 rfl) rfl
theorem q161 : (Jvm.Cond.soleField "ArgumentLabellerModel" "n") ∈ lw_all := lw_g (lw_at lw_m0 143 rfl) rfl
theorem q162 : (Jvm.Cond.lays "ArgumentLabellerModel" "ArgumentLabellerModel" "all" "I") ∈ lw_all := lw_g (lw_at lw_m0 144 rfl) rfl
theorem q163 : (Jvm.Cond.soleField "ArgumentLabellerModel" "all") ∈ lw_all := lw_g (lw_at lw_m0 145 rfl) rfl
theorem q164 : (Jvm.Cond.lays "ArgumentLabellerModel" "ArgumentLabellerModel" "there" "[Z") ∈ lw_all := lw_g (lw_at lw_m0 146 rfl) rfl
theorem q165 : (Jvm.Cond.soleField "ArgumentLabellerModel" "there") ∈ lw_all := lw_g (lw_at lw_m0 147 rfl) rfl
theorem q166 : (Jvm.Cond.superclass "ArgumentLabellerModel" "java/lang/Object") ∈ lw_all := lw_g (lw_at lw_m0 148 rfl) rfl
theorem q169 : (Jvm.Cond.instanceMethod ({ cls := "ArgumentLabellerModel", name := "attack", desc := "(II)I" } : Jvm.MethodName)) ∈ lw_all := lw_g (lw_at lw_m0 151 rfl) rfl
theorem q170 : (Jvm.Cond.selects "ArgumentLabellerModel" ({ cls := "ArgumentLabellerModel", name := "attack", desc := "(II)I" } : Jvm.MethodName) ({ cls := "ArgumentLabellerModel", name := "attack", desc := "(II)I" } : Jvm.MethodName)) ∈ lw_all := lw_g (lw_at lw_m0 152 rfl) rfl
theorem q171 : (Jvm.Cond.code ({ cls := "ArgumentLabellerModel", name := "attack", desc := "(II)I" } : Jvm.MethodName) prog_3_method_4_code (3 : Nat) (Option.some Jvm.ClassFile.FieldType.int)) ∈ lw_all := lw_g (lw_at lw_m0 153 rfl) rfl
theorem q172 : (Jvm.Cond.methodLink "ArgumentLabellerModel" (20 : Nat) ({ cls := "ArgumentLabellerModel", name := "isArgument", desc := "(I)Z" } : Jvm.MethodName)) ∈ lw_all := lw_g (lw_at lw_m0 154 rfl) rfl
theorem q173 : (Jvm.Cond.privateMethod ({ cls := "ArgumentLabellerModel", name := "isArgument", desc := "(I)Z" } : Jvm.MethodName)) ∈ lw_tbl := lw_at lw_m0 155 rfl
theorem q174 : (Jvm.Cond.instanceMethod ({ cls := "ArgumentLabellerModel", name := "isArgument", desc := "(I)Z" } : Jvm.MethodName)) ∈ lw_all := lw_g (lw_at lw_m0 156 rfl) rfl
theorem q175 : (Jvm.Cond.code ({ cls := "ArgumentLabellerModel", name := "isArgument", desc := "(I)Z" } : Jvm.MethodName) prog_3_method_2_code (2 : Nat) (Option.some Jvm.ClassFile.FieldType.boolean)) ∈ lw_all := lw_g (lw_at lw_m0 157 rfl) rfl
theorem q177 : (Jvm.Cond.instanceMethod ({ cls := "ArgumentLabellerModel", name := "withdraw", desc := "(II)I" } : Jvm.MethodName)) ∈ lw_all := lw_g (lw_at lw_m0 159 rfl) rfl
theorem q178 : (Jvm.Cond.selects "ArgumentLabellerModel" ({ cls := "ArgumentLabellerModel", name := "withdraw", desc := "(II)I" } : Jvm.MethodName) ({ cls := "ArgumentLabellerModel", name := "withdraw", desc := "(II)I" } : Jvm.MethodName)) ∈ lw_all := lw_g (lw_at lw_m0 160 rfl) rfl
theorem q179 : (Jvm.Cond.code ({ cls := "ArgumentLabellerModel", name := "withdraw", desc := "(II)I" } : Jvm.MethodName) prog_3_method_5_code (3 : Nat) (Option.some Jvm.ClassFile.FieldType.int)) ∈ lw_all := lw_g (lw_at lw_m0 161 rfl) rfl
theorem q181 : (Jvm.Cond.instanceMethod ({ cls := "ArgumentLabellerModel", name := "attacks", desc := "(II)Z" } : Jvm.MethodName)) ∈ lw_all := lw_g (lw_at lw_m0 163 rfl) rfl
theorem q182 : (Jvm.Cond.selects "ArgumentLabellerModel" ({ cls := "ArgumentLabellerModel", name := "attacks", desc := "(II)Z" } : Jvm.MethodName) ({ cls := "ArgumentLabellerModel", name := "attacks", desc := "(II)Z" } : Jvm.MethodName)) ∈ lw_all := lw_g (lw_at lw_m0 164 rfl) rfl
theorem q183 : (Jvm.Cond.code ({ cls := "ArgumentLabellerModel", name := "attacks", desc := "(II)Z" } : Jvm.MethodName) prog_3_method_6_code (3 : Nat) (Option.some Jvm.ClassFile.FieldType.boolean)) ∈ lw_all := lw_g (lw_at lw_m0 165 rfl) rfl
theorem q185 : (Jvm.Cond.instanceMethod ({ cls := "ArgumentLabellerModel", name := "grounded", desc := "()I" } : Jvm.MethodName)) ∈ lw_all := lw_g (lw_at lw_m0 167 rfl) rfl
theorem q186 : (Jvm.Cond.selects "ArgumentLabellerModel" ({ cls := "ArgumentLabellerModel", name := "grounded", desc := "()I" } : Jvm.MethodName) ({ cls := "ArgumentLabellerModel", name := "grounded", desc := "()I" } : Jvm.MethodName)) ∈ lw_all := lw_g (lw_at lw_m0 168 rfl) rfl
theorem q187 : (Jvm.Cond.code ({ cls := "ArgumentLabellerModel", name := "grounded", desc := "()I" } : Jvm.MethodName) prog_3_method_14_code (4 : Nat) (Option.some Jvm.ClassFile.FieldType.int)) ∈ lw_all := lw_g (lw_at lw_m0 169 rfl) rfl
theorem q188 : (Jvm.Cond.methodLink "ArgumentLabellerModel" (35 : Nat) ({ cls := "ArgumentLabellerModel", name := "defended", desc := "(I)I" } : Jvm.MethodName)) ∈ lw_all := lw_g (lw_at lw_m0 170 rfl) rfl
theorem q189 : (Jvm.Cond.privateMethod ({ cls := "ArgumentLabellerModel", name := "defended", desc := "(I)I" } : Jvm.MethodName)) ∈ lw_tbl := lw_at lw_m0 171 rfl
theorem q190 : (Jvm.Cond.instanceMethod ({ cls := "ArgumentLabellerModel", name := "defended", desc := "(I)I" } : Jvm.MethodName)) ∈ lw_all := lw_g (lw_at lw_m0 172 rfl) rfl
theorem q191 : (Jvm.Cond.code ({ cls := "ArgumentLabellerModel", name := "defended", desc := "(I)I" } : Jvm.MethodName) prog_3_method_8_code (5 : Nat) (Option.some Jvm.ClassFile.FieldType.int)) ∈ lw_all := lw_g (lw_at lw_m0 173 rfl) rfl
theorem q192 : (Jvm.Cond.methodLink "ArgumentLabellerModel" (28 : Nat) ({ cls := "ArgumentLabellerModel", name := "attacked", desc := "(I)I" } : Jvm.MethodName)) ∈ lw_all := lw_g (lw_at lw_m0 174 rfl) rfl
theorem q193 : (Jvm.Cond.privateMethod ({ cls := "ArgumentLabellerModel", name := "attacked", desc := "(I)I" } : Jvm.MethodName)) ∈ lw_tbl := lw_at lw_m0 175 rfl
theorem q194 : (Jvm.Cond.instanceMethod ({ cls := "ArgumentLabellerModel", name := "attacked", desc := "(I)I" } : Jvm.MethodName)) ∈ lw_all := lw_g (lw_at lw_m0 176 rfl) rfl
theorem q195 : (Jvm.Cond.code ({ cls := "ArgumentLabellerModel", name := "attacked", desc := "(I)I" } : Jvm.MethodName) prog_3_method_7_code (4 : Nat) (Option.some Jvm.ClassFile.FieldType.int)) ∈ lw_all := lw_g (lw_at lw_m0 177 rfl) rfl
theorem q196 : (Jvm.Cond.methodLink "ArgumentLabellerModel" (24 : Nat) ({ cls := "ArgumentLabellerModel", name := "in", desc := "(II)Z" } : Jvm.MethodName)) ∈ lw_all := lw_g (lw_at lw_m0 178 rfl) rfl
theorem q197 : (Jvm.Cond.privateMethod ({ cls := "ArgumentLabellerModel", name := "in", desc := "(II)Z" } : Jvm.MethodName)) ∈ lw_tbl := lw_at lw_m0 179 rfl
theorem q198 : (Jvm.Cond.instanceMethod ({ cls := "ArgumentLabellerModel", name := "in", desc := "(II)Z" } : Jvm.MethodName)) ∈ lw_all := lw_g (lw_at lw_m0 180 rfl) rfl
theorem q199 : (Jvm.Cond.code ({ cls := "ArgumentLabellerModel", name := "in", desc := "(II)Z" } : Jvm.MethodName) prog_3_method_3_code (3 : Nat) (Option.some Jvm.ClassFile.FieldType.boolean)) ∈ lw_all := lw_g (lw_at lw_m0 181 rfl) rfl
theorem q201 : (Jvm.Cond.instanceMethod ({ cls := "ArgumentLabellerModel", name := "count", desc := "(I)I" } : Jvm.MethodName)) ∈ lw_all := lw_g (lw_at lw_m0 183 rfl) rfl
theorem q202 : (Jvm.Cond.selects "ArgumentLabellerModel" ({ cls := "ArgumentLabellerModel", name := "count", desc := "(I)I" } : Jvm.MethodName) ({ cls := "ArgumentLabellerModel", name := "count", desc := "(I)I" } : Jvm.MethodName)) ∈ lw_all := lw_g (lw_at lw_m0 184 rfl) rfl
theorem q203 : (Jvm.Cond.code ({ cls := "ArgumentLabellerModel", name := "count", desc := "(I)I" } : Jvm.MethodName) prog_3_method_16_code (4 : Nat) (Option.some Jvm.ClassFile.FieldType.int)) ∈ lw_all := lw_g (lw_at lw_m0 185 rfl) rfl
theorem q204 : (Jvm.Cond.methodLink "ArgumentLabellerModel" (47 : Nat) ({ cls := "ArgumentLabellerModel", name := "isKind", desc := "(I)Z" } : Jvm.MethodName)) ∈ lw_all := lw_g (lw_at lw_m0 186 rfl) rfl
theorem q205 : (Jvm.Cond.privateMethod ({ cls := "ArgumentLabellerModel", name := "isKind", desc := "(I)Z" } : Jvm.MethodName)) ∈ lw_tbl := lw_at lw_m0 187 rfl
theorem q206 : (Jvm.Cond.instanceMethod ({ cls := "ArgumentLabellerModel", name := "isKind", desc := "(I)Z" } : Jvm.MethodName)) ∈ lw_all := lw_g (lw_at lw_m0 188 rfl) rfl
theorem q207 : (Jvm.Cond.code ({ cls := "ArgumentLabellerModel", name := "isKind", desc := "(I)Z" } : Jvm.MethodName) prog_3_method_15_code (2 : Nat) (Option.some Jvm.ClassFile.FieldType.boolean)) ∈ lw_all := lw_g (lw_at lw_m0 189 rfl) rfl
theorem q208 : (Jvm.Cond.methodLink "ArgumentLabellerModel" (50 : Nat) ({ cls := "ArgumentLabellerModel", name := "is", desc := "(II)Z" } : Jvm.MethodName)) ∈ lw_all := lw_g (lw_at lw_m0 190 rfl) rfl
theorem q209 : (Jvm.Cond.privateMethod ({ cls := "ArgumentLabellerModel", name := "is", desc := "(II)Z" } : Jvm.MethodName)) ∈ lw_tbl := lw_at lw_m0 191 rfl
theorem q210 : (Jvm.Cond.instanceMethod ({ cls := "ArgumentLabellerModel", name := "is", desc := "(II)Z" } : Jvm.MethodName)) ∈ lw_all := lw_g (lw_at lw_m0 192 rfl) rfl
theorem q211 : (Jvm.Cond.code ({ cls := "ArgumentLabellerModel", name := "is", desc := "(II)Z" } : Jvm.MethodName) prog_3_method_13_code (3 : Nat) (Option.some Jvm.ClassFile.FieldType.boolean)) ∈ lw_all := lw_g (lw_at lw_m0 193 rfl) rfl
theorem q212 : (Jvm.Cond.methodLink "ArgumentLabellerModel" (32 : Nat) ({ cls := "ArgumentLabellerModel", name := "conflictFree", desc := "(I)Z" } : Jvm.MethodName)) ∈ lw_all := lw_g (lw_at lw_m0 194 rfl) rfl
theorem q213 : (Jvm.Cond.privateMethod ({ cls := "ArgumentLabellerModel", name := "conflictFree", desc := "(I)Z" } : Jvm.MethodName)) ∈ lw_tbl := lw_at lw_m0 195 rfl
theorem q214 : (Jvm.Cond.instanceMethod ({ cls := "ArgumentLabellerModel", name := "conflictFree", desc := "(I)Z" } : Jvm.MethodName)) ∈ lw_all := lw_g (lw_at lw_m0 196 rfl) rfl
theorem q215 : (Jvm.Cond.code ({ cls := "ArgumentLabellerModel", name := "conflictFree", desc := "(I)Z" } : Jvm.MethodName) prog_3_method_9_code (2 : Nat) (Option.some Jvm.ClassFile.FieldType.boolean)) ∈ lw_all := lw_g (lw_at lw_m0 197 rfl) rfl
theorem q216 : (Jvm.Cond.methodLink "ArgumentLabellerModel" (38 : Nat) ({ cls := "ArgumentLabellerModel", name := "admissible", desc := "(I)Z" } : Jvm.MethodName)) ∈ lw_all := lw_g (lw_at lw_m0 198 rfl) rfl
theorem q217 : (Jvm.Cond.privateMethod ({ cls := "ArgumentLabellerModel", name := "admissible", desc := "(I)Z" } : Jvm.MethodName)) ∈ lw_tbl := lw_at lw_m0 199 rfl
theorem q218 : (Jvm.Cond.instanceMethod ({ cls := "ArgumentLabellerModel", name := "admissible", desc := "(I)Z" } : Jvm.MethodName)) ∈ lw_all := lw_g (lw_at lw_m0 200 rfl) rfl
theorem q219 : (Jvm.Cond.code ({ cls := "ArgumentLabellerModel", name := "admissible", desc := "(I)Z" } : Jvm.MethodName) prog_3_method_10_code (2 : Nat) (Option.some Jvm.ClassFile.FieldType.boolean)) ∈ lw_all := lw_g (lw_at lw_m0 201 rfl) rfl
theorem q220 : (Jvm.Cond.methodLink "ArgumentLabellerModel" (41 : Nat) ({ cls := "ArgumentLabellerModel", name := "maximal", desc := "(I)Z" } : Jvm.MethodName)) ∈ lw_all := lw_g (lw_at lw_m0 202 rfl) rfl
theorem q221 : (Jvm.Cond.privateMethod ({ cls := "ArgumentLabellerModel", name := "maximal", desc := "(I)Z" } : Jvm.MethodName)) ∈ lw_tbl := lw_at lw_m0 203 rfl
theorem q222 : (Jvm.Cond.instanceMethod ({ cls := "ArgumentLabellerModel", name := "maximal", desc := "(I)Z" } : Jvm.MethodName)) ∈ lw_all := lw_g (lw_at lw_m0 204 rfl) rfl
theorem q223 : (Jvm.Cond.code ({ cls := "ArgumentLabellerModel", name := "maximal", desc := "(I)Z" } : Jvm.MethodName) prog_3_method_11_code (3 : Nat) (Option.some Jvm.ClassFile.FieldType.boolean)) ∈ lw_all := lw_g (lw_at lw_m0 205 rfl) rfl
theorem q224 : (Jvm.Cond.methodLink "ArgumentLabellerModel" (44 : Nat) ({ cls := "ArgumentLabellerModel", name := "widest", desc := "(I)Z" } : Jvm.MethodName)) ∈ lw_all := lw_g (lw_at lw_m0 206 rfl) rfl
theorem q225 : (Jvm.Cond.privateMethod ({ cls := "ArgumentLabellerModel", name := "widest", desc := "(I)Z" } : Jvm.MethodName)) ∈ lw_tbl := lw_at lw_m0 207 rfl
theorem q226 : (Jvm.Cond.instanceMethod ({ cls := "ArgumentLabellerModel", name := "widest", desc := "(I)Z" } : Jvm.MethodName)) ∈ lw_all := lw_g (lw_at lw_m0 208 rfl) rfl
theorem q227 : (Jvm.Cond.code ({ cls := "ArgumentLabellerModel", name := "widest", desc := "(I)Z" } : Jvm.MethodName) prog_3_method_12_code (5 : Nat) (Option.some Jvm.ClassFile.FieldType.boolean)) ∈ lw_all := lw_g (lw_at lw_m0 209 rfl) rfl
theorem q229 : (Jvm.Cond.instanceMethod ({ cls := "ArgumentLabellerModel", name := "extension", desc := "(II)I" } : Jvm.MethodName)) ∈ lw_all := lw_g (lw_at lw_m0 211 rfl) rfl
theorem q230 : (Jvm.Cond.selects "ArgumentLabellerModel" ({ cls := "ArgumentLabellerModel", name := "extension", desc := "(II)I" } : Jvm.MethodName) ({ cls := "ArgumentLabellerModel", name := "extension", desc := "(II)I" } : Jvm.MethodName)) ∈ lw_all := lw_g (lw_at lw_m0 212 rfl) rfl
theorem q231 : (Jvm.Cond.code ({ cls := "ArgumentLabellerModel", name := "extension", desc := "(II)I" } : Jvm.MethodName) prog_3_method_17_code (5 : Nat) (Option.some Jvm.ClassFile.FieldType.int)) ∈ lw_all := lw_g (lw_at lw_m0 213 rfl) rfl
theorem q233 : (Jvm.Cond.instanceMethod ({ cls := "ArgumentLabellerModel", name := "inSome", desc := "(I)I" } : Jvm.MethodName)) ∈ lw_all := lw_g (lw_at lw_m0 215 rfl) rfl
theorem q234 : (Jvm.Cond.selects "ArgumentLabellerModel" ({ cls := "ArgumentLabellerModel", name := "inSome", desc := "(I)I" } : Jvm.MethodName) ({ cls := "ArgumentLabellerModel", name := "inSome", desc := "(I)I" } : Jvm.MethodName)) ∈ lw_all := lw_g (lw_at lw_m0 216 rfl) rfl
theorem q235 : (Jvm.Cond.code ({ cls := "ArgumentLabellerModel", name := "inSome", desc := "(I)I" } : Jvm.MethodName) prog_3_method_18_code (4 : Nat) (Option.some Jvm.ClassFile.FieldType.int)) ∈ lw_all := lw_g (lw_at lw_m0 217 rfl) rfl
theorem q237 : (Jvm.Cond.instanceMethod ({ cls := "ArgumentLabellerModel", name := "inEvery", desc := "(I)I" } : Jvm.MethodName)) ∈ lw_all := lw_g (lw_at lw_m0 219 rfl) rfl
theorem q238 : (Jvm.Cond.selects "ArgumentLabellerModel" ({ cls := "ArgumentLabellerModel", name := "inEvery", desc := "(I)I" } : Jvm.MethodName) ({ cls := "ArgumentLabellerModel", name := "inEvery", desc := "(I)I" } : Jvm.MethodName)) ∈ lw_all := lw_g (lw_at lw_m0 220 rfl) rfl
theorem q239 : (Jvm.Cond.code ({ cls := "ArgumentLabellerModel", name := "inEvery", desc := "(I)I" } : Jvm.MethodName) prog_3_method_19_code (4 : Nat) (Option.some Jvm.ClassFile.FieldType.int)) ∈ lw_all := lw_g (lw_at lw_m0 221 rfl) rfl
theorem q241 : (Jvm.Cond.instanceMethod ({ cls := "ArgumentLabellerModel", name := "clear", desc := "()I" } : Jvm.MethodName)) ∈ lw_all := lw_g (lw_at lw_m0 223 rfl) rfl
theorem q242 : (Jvm.Cond.selects "ArgumentLabellerModel" ({ cls := "ArgumentLabellerModel", name := "clear", desc := "()I" } : Jvm.MethodName) ({ cls := "ArgumentLabellerModel", name := "clear", desc := "()I" } : Jvm.MethodName)) ∈ lw_all := lw_g (lw_at lw_m0 224 rfl) rfl
theorem q243 : (Jvm.Cond.code ({ cls := "ArgumentLabellerModel", name := "clear", desc := "()I" } : Jvm.MethodName) prog_3_method_20_code (3 : Nat) (Option.some Jvm.ClassFile.FieldType.int)) ∈ lw_all := lw_g (lw_at lw_m0 225 rfl) rfl
theorem in_X2 : ∀ w ∈ wsX20, w ∈ lw_all := lw_in wsX20 [160, 162, 164] (by decide +kernel) (by decide +kernel)
end
section
/-!  java/lang/Object -/
set_option maxRecDepth 100000
def RJ0 : String := "java/lang/Object"
abbrev cJ0_init : ByteArray := object_method_1_code
def yJ0_init : MethodName := ⟨RJ0, "<init>", "()V"⟩
theorem dJ0_init_0 : decode cJ0_init 0 = .ok (.return_, 1) := by decide +kernel
theorem q27 : (Jvm.Cond.instanceMethod ({ cls := "java/lang/Object", name := "<init>", desc := "()V" } : Jvm.MethodName)) ∈ lw_all := lw_g (lw_at lw_m0 9 rfl) rfl
theorem q28 : (Jvm.Cond.code ({ cls := "java/lang/Object", name := "<init>", desc := "()V" } : Jvm.MethodName) object_method_1_code (1 : Nat) (Option.none : Option Jvm.ClassFile.FieldType)) ∈ lw_all := lw_g (lw_at lw_m0 10 rfl) rfl
theorem q78 : (Jvm.Cond.arrayClass Jvm.ClassFile.FieldType.int) ∈ lw_all := lw_g (lw_at lw_m0 60 rfl) rfl
set_option maxRecDepth 100000
theorem q79 : (Jvm.Cond.arrayClass Jvm.ClassFile.FieldType.byte) ∈ lw_all := lw_g (lw_at lw_m0 61 rfl) rfl
theorem q167 : (Jvm.Cond.arrayClass Jvm.ClassFile.FieldType.boolean) ∈ lw_all := lw_g (lw_at lw_m0 149 rfl) rfl
/-! ArgumentLabellerLaw -/
set_option maxRecDepth 100000
def RX0 : String := "ArgumentLabellerLaw"
abbrev cX0_cell : ByteArray := method_2_code
def yX0_cell : MethodName := ⟨RX0, "cell", "([II)I"⟩
theorem dX0_cell_0 : decode cX0_cell 0 = .ok (.iload_n 1, 1) := by decide +kernel
theorem dX0_cell_1 : decode cX0_cell 1 = .ok (.aload_n 0, 1) := by decide +kernel
theorem dX0_cell_2 : decode cX0_cell 2 = .ok (.arraylength, 1) := by decide +kernel
theorem dX0_cell_3 : decode cX0_cell 3 = .ok (.if_icmp .ge 9, 3) := by decide +kernel
theorem dX0_cell_6 : decode cX0_cell 6 = .ok (.aload_n 0, 1) := by decide +kernel
theorem dX0_cell_7 : decode cX0_cell 7 = .ok (.iload_n 1, 1) := by decide +kernel
theorem dX0_cell_8 : decode cX0_cell 8 = .ok (.iaload, 1) := by decide +kernel
theorem dX0_cell_9 : decode cX0_cell 9 = .ok (.goto 4, 3) := by decide +kernel
theorem dX0_cell_12 : decode cX0_cell 12 = .ok (.iconst 0, 1) := by decide +kernel
theorem dX0_cell_13 : decode cX0_cell 13 = .ok (.ireturn, 1) := by decide +kernel
theorem q18 : (Jvm.Cond.initialized "ArgumentLabellerLaw") ∈ lw_all := lw_g (lw_at lw_m0 0 rfl) rfl
theorem q21 : (Jvm.Cond.classLink "ArgumentLabellerLaw" (7 : Nat) "ArgumentLabeller") ∈ lw_all := lw_g (lw_at lw_m0 3 rfl) rfl
theorem q23 : (Jvm.Cond.methodLink "ArgumentLabellerLaw" (15 : Nat) ({ cls := "ArgumentLabeller", name := "<init>", desc := "(I)V" } : Jvm.MethodName)) ∈ lw_all := lw_g (lw_at lw_m0 5 rfl) rfl
theorem q80 : (Jvm.Cond.methodLink "ArgumentLabellerLaw" (21 : Nat) ({ cls := "ArgumentLabeller", name := "attack", desc := "(II)I" } : Jvm.MethodName)) ∈ lw_all := lw_g (lw_at lw_m0 62 rfl) rfl
theorem q88 : (Jvm.Cond.methodLink "ArgumentLabellerLaw" (26 : Nat) ({ cls := "ArgumentLabeller", name := "withdraw", desc := "(II)I" } : Jvm.MethodName)) ∈ lw_all := lw_g (lw_at lw_m0 70 rfl) rfl
theorem q92 : (Jvm.Cond.methodLink "ArgumentLabellerLaw" (30 : Nat) ({ cls := "ArgumentLabeller", name := "attacks", desc := "(II)Z" } : Jvm.MethodName)) ∈ lw_all := lw_g (lw_at lw_m0 74 rfl) rfl
theorem q96 : (Jvm.Cond.methodLink "ArgumentLabellerLaw" (35 : Nat) ({ cls := "ArgumentLabeller", name := "grounded", desc := "()I" } : Jvm.MethodName)) ∈ lw_all := lw_g (lw_at lw_m0 78 rfl) rfl
theorem q100 : (Jvm.Cond.methodLink "ArgumentLabellerLaw" (40 : Nat) ({ cls := "ArgumentLabeller", name := "count", desc := "(I)I" } : Jvm.MethodName)) ∈ lw_all := lw_g (lw_at lw_m0 82 rfl) rfl
theorem q132 : (Jvm.Cond.methodLink "ArgumentLabellerLaw" (45 : Nat) ({ cls := "ArgumentLabeller", name := "extension", desc := "(II)I" } : Jvm.MethodName)) ∈ lw_all := lw_g (lw_at lw_m0 114 rfl) rfl
theorem q136 : (Jvm.Cond.methodLink "ArgumentLabellerLaw" (49 : Nat) ({ cls := "ArgumentLabeller", name := "inSome", desc := "(I)I" } : Jvm.MethodName)) ∈ lw_all := lw_g (lw_at lw_m0 118 rfl) rfl
theorem q140 : (Jvm.Cond.methodLink "ArgumentLabellerLaw" (53 : Nat) ({ cls := "ArgumentLabeller", name := "inEvery", desc := "(I)I" } : Jvm.MethodName)) ∈ lw_all := lw_g (lw_at lw_m0 122 rfl) rfl
theorem q144 : (Jvm.Cond.methodLink "ArgumentLabellerLaw" (57 : Nat) ({ cls := "ArgumentLabeller", name := "clear", desc := "()I" } : Jvm.MethodName)) ∈ lw_all := lw_g (lw_at lw_m0 126 rfl) rfl
theorem q148 : (Jvm.Cond.methodLink "ArgumentLabellerLaw" (9 : Nat) ({ cls := "ArgumentLabellerLaw", name := "cell", desc := "([II)I" } : Jvm.MethodName)) ∈ lw_all := lw_g (lw_at lw_m0 130 rfl) rfl
theorem q149 : (Jvm.Cond.static ({ cls := "ArgumentLabellerLaw", name := "cell", desc := "([II)I" } : Jvm.MethodName)) ∈ lw_all := lw_g (lw_at lw_m0 131 rfl) rfl
theorem q150 : (Jvm.Cond.code ({ cls := "ArgumentLabellerLaw", name := "cell", desc := "([II)I" } : Jvm.MethodName) method_2_code (2 : Nat) (Option.some Jvm.ClassFile.FieldType.int)) ∈ lw_all := lw_g (lw_at lw_m0 132 rfl) rfl
theorem q151 : (Jvm.Cond.classLink "ArgumentLabellerLaw" (18 : Nat) "ArgumentLabellerModel") ∈ lw_all := lw_g (lw_at lw_m0 133 rfl) rfl
theorem q153 : (Jvm.Cond.methodLink "ArgumentLabellerLaw" (20 : Nat) ({ cls := "ArgumentLabellerModel", name := "<init>", desc := "(I)V" } : Jvm.MethodName)) ∈ lw_all := lw_g (lw_at lw_m0 135 rfl) rfl
theorem q168 : (Jvm.Cond.methodLink "ArgumentLabellerLaw" (25 : Nat) ({ cls := "ArgumentLabellerModel", name := "attack", desc := "(II)I" } : Jvm.MethodName)) ∈ lw_all := lw_g (lw_at lw_m0 150 rfl) rfl
theorem q176 : (Jvm.Cond.methodLink "ArgumentLabellerLaw" (29 : Nat) ({ cls := "ArgumentLabellerModel", name := "withdraw", desc := "(II)I" } : Jvm.MethodName)) ∈ lw_all := lw_g (lw_at lw_m0 158 rfl) rfl
theorem q180 : (Jvm.Cond.methodLink "ArgumentLabellerLaw" (34 : Nat) ({ cls := "ArgumentLabellerModel", name := "attacks", desc := "(II)Z" } : Jvm.MethodName)) ∈ lw_all := lw_g (lw_at lw_m0 162 rfl) rfl
theorem q184 : (Jvm.Cond.methodLink "ArgumentLabellerLaw" (39 : Nat) ({ cls := "ArgumentLabellerModel", name := "grounded", desc := "()I" } : Jvm.MethodName)) ∈ lw_all := lw_g (lw_at lw_m0 166 rfl) rfl
theorem q200 : (Jvm.Cond.methodLink "ArgumentLabellerLaw" (44 : Nat) ({ cls := "ArgumentLabellerModel", name := "count", desc := "(I)I" } : Jvm.MethodName)) ∈ lw_all := lw_g (lw_at lw_m0 182 rfl) rfl
theorem q228 : (Jvm.Cond.methodLink "ArgumentLabellerLaw" (48 : Nat) ({ cls := "ArgumentLabellerModel", name := "extension", desc := "(II)I" } : Jvm.MethodName)) ∈ lw_all := lw_g (lw_at lw_m0 210 rfl) rfl
theorem q232 : (Jvm.Cond.methodLink "ArgumentLabellerLaw" (52 : Nat) ({ cls := "ArgumentLabellerModel", name := "inSome", desc := "(I)I" } : Jvm.MethodName)) ∈ lw_all := lw_g (lw_at lw_m0 214 rfl) rfl
theorem q236 : (Jvm.Cond.methodLink "ArgumentLabellerLaw" (56 : Nat) ({ cls := "ArgumentLabellerModel", name := "inEvery", desc := "(I)I" } : Jvm.MethodName)) ∈ lw_all := lw_g (lw_at lw_m0 218 rfl) rfl
theorem q240 : (Jvm.Cond.methodLink "ArgumentLabellerLaw" (60 : Nat) ({ cls := "ArgumentLabellerModel", name := "clear", desc := "()I" } : Jvm.MethodName)) ∈ lw_all := lw_g (lw_at lw_m0 222 rfl) rfl
/-! the law's own entry -/
set_option maxRecDepth 100000
abbrev cL_law : ByteArray := code
theorem dL_law_0 : decode cL_law 0 = .ok (.new 7, 3) := by decide +kernel
theorem dL_law_3 : decode cL_law 3 = .ok (.dup, 1) := by decide +kernel
theorem dL_law_4 : decode cL_law 4 = .ok (.aload_n 0, 1) := by decide +kernel
theorem dL_law_5 : decode cL_law 5 = .ok (.iconst 0, 1) := by decide +kernel
theorem dL_law_6 : decode cL_law 6 = .ok (.invokestatic 9, 3) := by decide +kernel
theorem dL_law_9 : decode cL_law 9 = .ok (.invokespecial 15, 3) := by decide +kernel
theorem dL_law_12 : decode cL_law 12 = .ok (.astore_n 1, 1) := by decide +kernel
theorem dL_law_13 : decode cL_law 13 = .ok (.new 18, 3) := by decide +kernel
theorem dL_law_16 : decode cL_law 16 = .ok (.dup, 1) := by decide +kernel
theorem dL_law_17 : decode cL_law 17 = .ok (.aload_n 0, 1) := by decide +kernel
theorem dL_law_18 : decode cL_law 18 = .ok (.iconst 0, 1) := by decide +kernel
theorem dL_law_19 : decode cL_law 19 = .ok (.invokestatic 9, 3) := by decide +kernel
theorem dL_law_22 : decode cL_law 22 = .ok (.invokespecial 20, 3) := by decide +kernel
theorem dL_law_25 : decode cL_law 25 = .ok (.astore_n 2, 1) := by decide +kernel
theorem dL_law_26 : decode cL_law 26 = .ok (.iconst 1, 1) := by decide +kernel
theorem dL_law_27 : decode cL_law 27 = .ok (.istore_n 3, 1) := by decide +kernel
theorem dL_law_28 : decode cL_law 28 = .ok (.iload_n 3, 1) := by decide +kernel
theorem dL_law_29 : decode cL_law 29 = .ok (.aload_n 0, 1) := by decide +kernel
theorem dL_law_30 : decode cL_law 30 = .ok (.arraylength, 1) := by decide +kernel
theorem dL_law_31 : decode cL_law 31 = .ok (.iconst 3, 1) := by decide +kernel
theorem dL_law_32 : decode cL_law 32 = .ok (.isub, 1) := by decide +kernel
theorem dL_law_33 : decode cL_law 33 = .ok (.if_icmp .gt 292, 3) := by decide +kernel
theorem dL_law_36 : decode cL_law 36 = .ok (.aload_n 0, 1) := by decide +kernel
theorem dL_law_37 : decode cL_law 37 = .ok (.iload_n 3, 1) := by decide +kernel
theorem dL_law_38 : decode cL_law 38 = .ok (.iaload, 1) := by decide +kernel
theorem dL_law_39 : decode cL_law 39 = .ok (.bipush 15, 2) := by decide +kernel
theorem dL_law_41 : decode cL_law 41 = .ok (.iand, 1) := by decide +kernel
theorem dL_law_42 : decode cL_law 42 = .ok (.tableswitch 277 0 8 #[50, 83, 116, 149, 162, 185, 218, 241, 264], 50) := by decide +kernel
theorem dL_law_92 : decode cL_law 92 = .ok (.aload_n 1, 1) := by decide +kernel
theorem dL_law_93 : decode cL_law 93 = .ok (.aload_n 0, 1) := by decide +kernel
theorem dL_law_94 : decode cL_law 94 = .ok (.iload_n 3, 1) := by decide +kernel
theorem dL_law_95 : decode cL_law 95 = .ok (.iconst 1, 1) := by decide +kernel
theorem dL_law_96 : decode cL_law 96 = .ok (.iadd, 1) := by decide +kernel
theorem dL_law_97 : decode cL_law 97 = .ok (.iaload, 1) := by decide +kernel
theorem dL_law_98 : decode cL_law 98 = .ok (.aload_n 0, 1) := by decide +kernel
theorem dL_law_99 : decode cL_law 99 = .ok (.iload_n 3, 1) := by decide +kernel
theorem dL_law_100 : decode cL_law 100 = .ok (.iconst 2, 1) := by decide +kernel
theorem dL_law_101 : decode cL_law 101 = .ok (.iadd, 1) := by decide +kernel
theorem dL_law_102 : decode cL_law 102 = .ok (.iaload, 1) := by decide +kernel
theorem dL_law_103 : decode cL_law 103 = .ok (.invokevirtual 21, 3) := by decide +kernel
theorem dL_law_106 : decode cL_law 106 = .ok (.aload_n 2, 1) := by decide +kernel
theorem dL_law_107 : decode cL_law 107 = .ok (.aload_n 0, 1) := by decide +kernel
theorem dL_law_108 : decode cL_law 108 = .ok (.iload_n 3, 1) := by decide +kernel
theorem dL_law_109 : decode cL_law 109 = .ok (.iconst 1, 1) := by decide +kernel
theorem dL_law_110 : decode cL_law 110 = .ok (.iadd, 1) := by decide +kernel
theorem dL_law_111 : decode cL_law 111 = .ok (.iaload, 1) := by decide +kernel
theorem dL_law_112 : decode cL_law 112 = .ok (.aload_n 0, 1) := by decide +kernel
theorem dL_law_113 : decode cL_law 113 = .ok (.iload_n 3, 1) := by decide +kernel
theorem dL_law_114 : decode cL_law 114 = .ok (.iconst 2, 1) := by decide +kernel
theorem dL_law_115 : decode cL_law 115 = .ok (.iadd, 1) := by decide +kernel
theorem dL_law_116 : decode cL_law 116 = .ok (.iaload, 1) := by decide +kernel
theorem dL_law_117 : decode cL_law 117 = .ok (.invokevirtual 25, 3) := by decide +kernel
theorem dL_law_120 : decode cL_law 120 = .ok (.if_icmp .eq 199, 3) := by decide +kernel
theorem dL_law_123 : decode cL_law 123 = .ok (.iconst 0, 1) := by decide +kernel
theorem dL_law_124 : decode cL_law 124 = .ok (.ireturn, 1) := by decide +kernel
theorem dL_law_125 : decode cL_law 125 = .ok (.aload_n 1, 1) := by decide +kernel
theorem dL_law_126 : decode cL_law 126 = .ok (.aload_n 0, 1) := by decide +kernel
theorem dL_law_127 : decode cL_law 127 = .ok (.iload_n 3, 1) := by decide +kernel
theorem dL_law_128 : decode cL_law 128 = .ok (.iconst 1, 1) := by decide +kernel
theorem dL_law_129 : decode cL_law 129 = .ok (.iadd, 1) := by decide +kernel
theorem dL_law_130 : decode cL_law 130 = .ok (.iaload, 1) := by decide +kernel
theorem dL_law_131 : decode cL_law 131 = .ok (.aload_n 0, 1) := by decide +kernel
theorem dL_law_132 : decode cL_law 132 = .ok (.iload_n 3, 1) := by decide +kernel
theorem dL_law_133 : decode cL_law 133 = .ok (.iconst 2, 1) := by decide +kernel
theorem dL_law_134 : decode cL_law 134 = .ok (.iadd, 1) := by decide +kernel
theorem dL_law_135 : decode cL_law 135 = .ok (.iaload, 1) := by decide +kernel
theorem dL_law_136 : decode cL_law 136 = .ok (.invokevirtual 26, 3) := by decide +kernel
theorem dL_law_139 : decode cL_law 139 = .ok (.aload_n 2, 1) := by decide +kernel
theorem dL_law_140 : decode cL_law 140 = .ok (.aload_n 0, 1) := by decide +kernel
theorem dL_law_141 : decode cL_law 141 = .ok (.iload_n 3, 1) := by decide +kernel
theorem dL_law_142 : decode cL_law 142 = .ok (.iconst 1, 1) := by decide +kernel
theorem dL_law_143 : decode cL_law 143 = .ok (.iadd, 1) := by decide +kernel
theorem dL_law_144 : decode cL_law 144 = .ok (.iaload, 1) := by decide +kernel
theorem dL_law_145 : decode cL_law 145 = .ok (.aload_n 0, 1) := by decide +kernel
theorem dL_law_146 : decode cL_law 146 = .ok (.iload_n 3, 1) := by decide +kernel
theorem dL_law_147 : decode cL_law 147 = .ok (.iconst 2, 1) := by decide +kernel
theorem dL_law_148 : decode cL_law 148 = .ok (.iadd, 1) := by decide +kernel
theorem dL_law_149 : decode cL_law 149 = .ok (.iaload, 1) := by decide +kernel
theorem dL_law_150 : decode cL_law 150 = .ok (.invokevirtual 29, 3) := by decide +kernel
theorem dL_law_153 : decode cL_law 153 = .ok (.if_icmp .eq 166, 3) := by decide +kernel
theorem dL_law_156 : decode cL_law 156 = .ok (.iconst 0, 1) := by decide +kernel
theorem dL_law_157 : decode cL_law 157 = .ok (.ireturn, 1) := by decide +kernel
theorem dL_law_158 : decode cL_law 158 = .ok (.aload_n 1, 1) := by decide +kernel
theorem dL_law_159 : decode cL_law 159 = .ok (.aload_n 0, 1) := by decide +kernel
theorem dL_law_160 : decode cL_law 160 = .ok (.iload_n 3, 1) := by decide +kernel
theorem dL_law_161 : decode cL_law 161 = .ok (.iconst 1, 1) := by decide +kernel
theorem dL_law_162 : decode cL_law 162 = .ok (.iadd, 1) := by decide +kernel
theorem dL_law_163 : decode cL_law 163 = .ok (.iaload, 1) := by decide +kernel
theorem dL_law_164 : decode cL_law 164 = .ok (.aload_n 0, 1) := by decide +kernel
theorem dL_law_165 : decode cL_law 165 = .ok (.iload_n 3, 1) := by decide +kernel
theorem dL_law_166 : decode cL_law 166 = .ok (.iconst 2, 1) := by decide +kernel
theorem dL_law_167 : decode cL_law 167 = .ok (.iadd, 1) := by decide +kernel
theorem dL_law_168 : decode cL_law 168 = .ok (.iaload, 1) := by decide +kernel
theorem dL_law_169 : decode cL_law 169 = .ok (.invokevirtual 30, 3) := by decide +kernel
theorem dL_law_172 : decode cL_law 172 = .ok (.aload_n 2, 1) := by decide +kernel
theorem dL_law_173 : decode cL_law 173 = .ok (.aload_n 0, 1) := by decide +kernel
theorem dL_law_174 : decode cL_law 174 = .ok (.iload_n 3, 1) := by decide +kernel
theorem dL_law_175 : decode cL_law 175 = .ok (.iconst 1, 1) := by decide +kernel
theorem dL_law_176 : decode cL_law 176 = .ok (.iadd, 1) := by decide +kernel
theorem dL_law_177 : decode cL_law 177 = .ok (.iaload, 1) := by decide +kernel
theorem dL_law_178 : decode cL_law 178 = .ok (.aload_n 0, 1) := by decide +kernel
theorem dL_law_179 : decode cL_law 179 = .ok (.iload_n 3, 1) := by decide +kernel
theorem dL_law_180 : decode cL_law 180 = .ok (.iconst 2, 1) := by decide +kernel
theorem dL_law_181 : decode cL_law 181 = .ok (.iadd, 1) := by decide +kernel
theorem dL_law_182 : decode cL_law 182 = .ok (.iaload, 1) := by decide +kernel
theorem dL_law_183 : decode cL_law 183 = .ok (.invokevirtual 34, 3) := by decide +kernel
theorem dL_law_186 : decode cL_law 186 = .ok (.if_icmp .eq 133, 3) := by decide +kernel
theorem dL_law_189 : decode cL_law 189 = .ok (.iconst 0, 1) := by decide +kernel
theorem dL_law_190 : decode cL_law 190 = .ok (.ireturn, 1) := by decide +kernel
theorem dL_law_191 : decode cL_law 191 = .ok (.aload_n 1, 1) := by decide +kernel
theorem dL_law_192 : decode cL_law 192 = .ok (.invokevirtual 35, 3) := by decide +kernel
theorem dL_law_195 : decode cL_law 195 = .ok (.aload_n 2, 1) := by decide +kernel
theorem dL_law_196 : decode cL_law 196 = .ok (.invokevirtual 39, 3) := by decide +kernel
theorem dL_law_199 : decode cL_law 199 = .ok (.if_icmp .eq 120, 3) := by decide +kernel
theorem dL_law_202 : decode cL_law 202 = .ok (.iconst 0, 1) := by decide +kernel
theorem dL_law_203 : decode cL_law 203 = .ok (.ireturn, 1) := by decide +kernel
theorem dL_law_204 : decode cL_law 204 = .ok (.aload_n 1, 1) := by decide +kernel
theorem dL_law_205 : decode cL_law 205 = .ok (.aload_n 0, 1) := by decide +kernel
theorem dL_law_206 : decode cL_law 206 = .ok (.iload_n 3, 1) := by decide +kernel
theorem dL_law_207 : decode cL_law 207 = .ok (.iconst 1, 1) := by decide +kernel
theorem dL_law_208 : decode cL_law 208 = .ok (.iadd, 1) := by decide +kernel
theorem dL_law_209 : decode cL_law 209 = .ok (.iaload, 1) := by decide +kernel
theorem dL_law_210 : decode cL_law 210 = .ok (.invokevirtual 40, 3) := by decide +kernel
theorem dL_law_213 : decode cL_law 213 = .ok (.aload_n 2, 1) := by decide +kernel
theorem dL_law_214 : decode cL_law 214 = .ok (.aload_n 0, 1) := by decide +kernel
theorem dL_law_215 : decode cL_law 215 = .ok (.iload_n 3, 1) := by decide +kernel
theorem dL_law_216 : decode cL_law 216 = .ok (.iconst 1, 1) := by decide +kernel
theorem dL_law_217 : decode cL_law 217 = .ok (.iadd, 1) := by decide +kernel
theorem dL_law_218 : decode cL_law 218 = .ok (.iaload, 1) := by decide +kernel
theorem dL_law_219 : decode cL_law 219 = .ok (.invokevirtual 44, 3) := by decide +kernel
theorem dL_law_222 : decode cL_law 222 = .ok (.if_icmp .eq 97, 3) := by decide +kernel
theorem dL_law_225 : decode cL_law 225 = .ok (.iconst 0, 1) := by decide +kernel
theorem dL_law_226 : decode cL_law 226 = .ok (.ireturn, 1) := by decide +kernel
theorem dL_law_227 : decode cL_law 227 = .ok (.aload_n 1, 1) := by decide +kernel
theorem dL_law_228 : decode cL_law 228 = .ok (.aload_n 0, 1) := by decide +kernel
theorem dL_law_229 : decode cL_law 229 = .ok (.iload_n 3, 1) := by decide +kernel
theorem dL_law_230 : decode cL_law 230 = .ok (.iconst 1, 1) := by decide +kernel
theorem dL_law_231 : decode cL_law 231 = .ok (.iadd, 1) := by decide +kernel
theorem dL_law_232 : decode cL_law 232 = .ok (.iaload, 1) := by decide +kernel
theorem dL_law_233 : decode cL_law 233 = .ok (.aload_n 0, 1) := by decide +kernel
theorem dL_law_234 : decode cL_law 234 = .ok (.iload_n 3, 1) := by decide +kernel
theorem dL_law_235 : decode cL_law 235 = .ok (.iconst 2, 1) := by decide +kernel
theorem dL_law_236 : decode cL_law 236 = .ok (.iadd, 1) := by decide +kernel
theorem dL_law_237 : decode cL_law 237 = .ok (.iaload, 1) := by decide +kernel
theorem dL_law_238 : decode cL_law 238 = .ok (.invokevirtual 45, 3) := by decide +kernel
theorem dL_law_241 : decode cL_law 241 = .ok (.aload_n 2, 1) := by decide +kernel
theorem dL_law_242 : decode cL_law 242 = .ok (.aload_n 0, 1) := by decide +kernel
theorem dL_law_243 : decode cL_law 243 = .ok (.iload_n 3, 1) := by decide +kernel
theorem dL_law_244 : decode cL_law 244 = .ok (.iconst 1, 1) := by decide +kernel
theorem dL_law_245 : decode cL_law 245 = .ok (.iadd, 1) := by decide +kernel
theorem dL_law_246 : decode cL_law 246 = .ok (.iaload, 1) := by decide +kernel
theorem dL_law_247 : decode cL_law 247 = .ok (.aload_n 0, 1) := by decide +kernel
theorem dL_law_248 : decode cL_law 248 = .ok (.iload_n 3, 1) := by decide +kernel
theorem dL_law_249 : decode cL_law 249 = .ok (.iconst 2, 1) := by decide +kernel
theorem dL_law_250 : decode cL_law 250 = .ok (.iadd, 1) := by decide +kernel
theorem dL_law_251 : decode cL_law 251 = .ok (.iaload, 1) := by decide +kernel
theorem dL_law_252 : decode cL_law 252 = .ok (.invokevirtual 48, 3) := by decide +kernel
theorem dL_law_255 : decode cL_law 255 = .ok (.if_icmp .eq 64, 3) := by decide +kernel
theorem dL_law_258 : decode cL_law 258 = .ok (.iconst 0, 1) := by decide +kernel
theorem dL_law_259 : decode cL_law 259 = .ok (.ireturn, 1) := by decide +kernel
theorem dL_law_260 : decode cL_law 260 = .ok (.aload_n 1, 1) := by decide +kernel
theorem dL_law_261 : decode cL_law 261 = .ok (.aload_n 0, 1) := by decide +kernel
theorem dL_law_262 : decode cL_law 262 = .ok (.iload_n 3, 1) := by decide +kernel
theorem dL_law_263 : decode cL_law 263 = .ok (.iconst 1, 1) := by decide +kernel
theorem dL_law_264 : decode cL_law 264 = .ok (.iadd, 1) := by decide +kernel
theorem dL_law_265 : decode cL_law 265 = .ok (.iaload, 1) := by decide +kernel
theorem dL_law_266 : decode cL_law 266 = .ok (.invokevirtual 49, 3) := by decide +kernel
theorem dL_law_269 : decode cL_law 269 = .ok (.aload_n 2, 1) := by decide +kernel
theorem dL_law_270 : decode cL_law 270 = .ok (.aload_n 0, 1) := by decide +kernel
theorem dL_law_271 : decode cL_law 271 = .ok (.iload_n 3, 1) := by decide +kernel
theorem dL_law_272 : decode cL_law 272 = .ok (.iconst 1, 1) := by decide +kernel
theorem dL_law_273 : decode cL_law 273 = .ok (.iadd, 1) := by decide +kernel
theorem dL_law_274 : decode cL_law 274 = .ok (.iaload, 1) := by decide +kernel
theorem dL_law_275 : decode cL_law 275 = .ok (.invokevirtual 52, 3) := by decide +kernel
theorem dL_law_278 : decode cL_law 278 = .ok (.if_icmp .eq 41, 3) := by decide +kernel
theorem dL_law_281 : decode cL_law 281 = .ok (.iconst 0, 1) := by decide +kernel
theorem dL_law_282 : decode cL_law 282 = .ok (.ireturn, 1) := by decide +kernel
theorem dL_law_283 : decode cL_law 283 = .ok (.aload_n 1, 1) := by decide +kernel
theorem dL_law_284 : decode cL_law 284 = .ok (.aload_n 0, 1) := by decide +kernel
theorem dL_law_285 : decode cL_law 285 = .ok (.iload_n 3, 1) := by decide +kernel
theorem dL_law_286 : decode cL_law 286 = .ok (.iconst 1, 1) := by decide +kernel
theorem dL_law_287 : decode cL_law 287 = .ok (.iadd, 1) := by decide +kernel
theorem dL_law_288 : decode cL_law 288 = .ok (.iaload, 1) := by decide +kernel
theorem dL_law_289 : decode cL_law 289 = .ok (.invokevirtual 53, 3) := by decide +kernel
theorem dL_law_292 : decode cL_law 292 = .ok (.aload_n 2, 1) := by decide +kernel
theorem dL_law_293 : decode cL_law 293 = .ok (.aload_n 0, 1) := by decide +kernel
theorem dL_law_294 : decode cL_law 294 = .ok (.iload_n 3, 1) := by decide +kernel
theorem dL_law_295 : decode cL_law 295 = .ok (.iconst 1, 1) := by decide +kernel
theorem dL_law_296 : decode cL_law 296 = .ok (.iadd, 1) := by decide +kernel
theorem dL_law_297 : decode cL_law 297 = .ok (.iaload, 1) := by decide +kernel
theorem dL_law_298 : decode cL_law 298 = .ok (.invokevirtual 56, 3) := by decide +kernel
theorem dL_law_301 : decode cL_law 301 = .ok (.if_icmp .eq 18, 3) := by decide +kernel
theorem dL_law_304 : decode cL_law 304 = .ok (.iconst 0, 1) := by decide +kernel
theorem dL_law_305 : decode cL_law 305 = .ok (.ireturn, 1) := by decide +kernel
theorem dL_law_306 : decode cL_law 306 = .ok (.aload_n 1, 1) := by decide +kernel
theorem dL_law_307 : decode cL_law 307 = .ok (.invokevirtual 57, 3) := by decide +kernel
theorem dL_law_310 : decode cL_law 310 = .ok (.aload_n 2, 1) := by decide +kernel
theorem dL_law_311 : decode cL_law 311 = .ok (.invokevirtual 60, 3) := by decide +kernel
theorem dL_law_314 : decode cL_law 314 = .ok (.if_icmp .eq 5, 3) := by decide +kernel
theorem dL_law_317 : decode cL_law 317 = .ok (.iconst 0, 1) := by decide +kernel
theorem dL_law_318 : decode cL_law 318 = .ok (.ireturn, 1) := by decide +kernel
theorem dL_law_319 : decode cL_law 319 = .ok (.iinc 3 3, 3) := by decide +kernel
theorem dL_law_322 : decode cL_law 322 = .ok (.goto (-294), 3) := by decide +kernel
theorem dL_law_325 : decode cL_law 325 = .ok (.iconst 1, 1) := by decide +kernel
theorem dL_law_326 : decode cL_law 326 = .ok (.ireturn, 1) := by decide +kernel
end
section
set_option maxRecDepth 100000
abbrev cl2 : List vw_C := [(RX1, TX1, 16), (RX2, TX2, 3)]
/-- the cells of an ArgumentLabeller: the object and its nine arrays -/
def wL (cI cB : ClassId) (ad : Nat → Nat) (n ev : Int32) (at_ tg : Nat → Int32) (ac re un ch : Int32) (fa fr fu fg ft : Nat → Int32) (se : Int32) (kd rg : Nat → Int32) : va_W :=
  [(ad 0, .inr (0, [.int n, .int ev, .ref (ad 2), .ref (ad 3), .int ac, .int re, .int un, .int ch, .ref (ad 8), .ref (ad 9), .ref (ad 10), .ref (ad 11), .ref (ad 12), .int se, .ref (ad 14), .ref (ad 15)])),
   (ad 2, .inl (cI, 8, .inl at_)), (ad 3, .inl (cI, 8, .inl tg)), (ad 8, .inl (cI, 9, .inl fa)), (ad 9, .inl (cI, 9, .inl fr)), (ad 10, .inl (cI, 9, .inl fu)), (ad 11, .inl (cB, 9, .inl fg)), (ad 12, .inl (cB, 9, .inl ft)), (ad 14, .inl (cB, 256, .inl kd)), (ad 15, .inl (cI, 256, .inl rg))]
abbrev tyL (cI cB : ClassId) : List (ClassId × FieldType) := [(cI, .int), (cB, .byte)]
/-- the cells of an ArgumentLabellerModel: the object and its array -/
def wM (cZ : ClassId) (bd : Nat → Nat) (n al : Int32) (th : Nat → Int32) : va_W := [(bd 0, .inr (1, [.int n, .int al, .ref (bd 2)])), (bd 2, .inl (cZ, 64, .inl th))]
abbrev tyM (cZ : ClassId) : List (ClassId × FieldType) := [(cZ, .boolean)]
abbrev gP (D : va_G) (tys : List (ClassId × FieldType)) (w : va_W) (sz : Nat) (av : List Value) : Array Value → State → Prop := va_Pc av (fun U => U.heap.size = sz ∧ va_P D cl2 w U.heap ∧ va_K D cl2 tys U ∧ va_D (fun _ => True) w)
abbrev gQi {S : Type} (D : va_G) (post : Int32 → S → Prop) (w : va_W) (w1 : S → va_W) (sz : Nat) : Array Value → State → Outcome → State → Prop := va_Qi post (fun u t => va_P D cl2 (w1 u) t.heap ∧ va_D (va_A w sz) (w1 u)) (va_A w sz)
abbrev gQv {S : Type} (D : va_G) (post : S → Prop) (w : va_W) (w1 : S → va_W) (sz : Nat) : Array Value → State → Outcome → State → Prop := va_Qv post (fun u t => va_P D cl2 (w1 u) t.heap ∧ va_D (va_A w sz) (w1 u)) (va_A w sz)
/-- a method's start: what every walk begins with -/
theorem gstart {l : Launch} {y : MethodName} {cc : ByteArray} {maxL mc ms : Nat} {ret : Option FieldType} {rm : Room} {D : va_G} {tys : List (ClassId × FieldType)} {w : va_W} {sz : Nat} {av : List Value} {Qc : Array Value → State → Outcome → State → Prop} {own : String} (hy : plainName y.cls = true) (ho : y.cls = own) (hn : (lg_sl av).length ≤ maxL)
    (body : ∀ (p : Program) (e : Env) (s : State) (m : MethodId) (below : List Frame) (meth : Method) (c : Code), p.tables.exec = Jvm.exec → c.code = cc → meth.sig.returnType = ret → meth.locks = false → c.maxLocals = maxL → s.vm.findClass own = some m.cls → (∀ w ∈ lw_all, w.before av.toArray s = true) → s.heap.size = sz → va_P D cl2 w s.heap → va_K D cl2 tys s → va_D (va_A w sz) w → (∀ q : Nat, s.heap.size ≤ q → va_A w sz q) → meth.name = y.name → ∀ ls : Array Slot, lv_has ls maxL (lv_args 0 av) → W p l e rm s m av.toArray below meth c s.heap [] 0 0 (MQ below Qc av.toArray s mc ms (va_A w sz)) (F0 m 0 ls [])) : Met l y (ws_ y cc maxL ret) rm (gP D tys w sz av) Qc mc ms (va_A w sz) := by
  refine Met.ofW (cc := cc) (maxL := maxL) (ret := ret) hy rfl ?_
  intro p e s m args below meth c s₁ B hml hv
  obtain ⟨rfl, hsz, hP, hK, hD0⟩ := hv
  have hts := atoms_spec (ws := ws_ y cc maxL ret) B.pre
  have hts : ∀ w ∈ lw_all, w.before _ s = true := fun w h => hts w (List.mem_cons_of_mem _ h)
  have hown : s.vm.findClass y.cls = some m.cls := findClass_of_methodNamed B.named
  rw [ho] at hown
  have hin : meth.name = y.name := (name_of_methodNamed B.named B.method).1
  have hl := lv_entry av (n := maxL) hn
  rw [lg_entry_eq]
  exact body p e s m below meth c B.exec B.bytes B.returns B.notSynchronized hml hown hts hsz hP hK hD0.self (fun q h => Or.inr (hsz ▸ h)) hin _ hl
section GR
variable {p : Program} {l : Launch} {e : Env} {R : Room} {s : State} {m : MethodId} {args : Array Value} {below : List Frame} {meth : Method} {c : Code} {H : Heap} {locs : List Loc} {cells slots : Nat} {Q : State → Prop}
variable {cc : ByteArray} {pc : Nat} {ls : Array Slot} {rest st : List Value} {dC : Nat → ClassId} {dI : Nat → Nat → Nat} {A : Nat → Prop} {tys : List (ClassId × FieldType)} {H0 : Heap}
/-- the number on top under another name -/
theorem tope {x y : Int32} (h : x = y) (k : W p l e R s m args below meth c H locs cells slots Q (F0 m pc ls (.int y :: rest))) : W p l e R s m args below meth c H locs cells slots Q (F0 m pc ls (.int x :: rest)) := h ▸ k
theorem greti {S : Type} {post : Int32 → S → Prop} {w : va_W} {w1 : S → va_W} {sz : Nat} {v : Int32} (hx : p.tables.exec = Jvm.exec) (hb : c.code = cc) (hr : meth.sig.returnType = some .int) (hlocks : meth.locks = false) (u : S) (hp : post v u) (hP : va_P (dC, dI) cl2 (w1 u) H) (hD : va_D (va_A w sz) (w1 u)) (hS : va_S (va_A w sz) s.heap H locs) (hdg : decode cc pc = .ok (.ireturn, 1)) : W p l e R s m args below meth c H locs cells slots (MQ below (gQi (dC, dI) post w w1 sz) args s cells slots (va_A w sz)) (F0 m pc ls [.int v]) :=
  W.iret hx hb hr (fun t ht hW => ⟨⟨v, u, rfl, hp, by rw [ht]; exact hP, hD⟩, hS.F ht⟩) hS.2.2 hdg hlocks
theorem gretz {S : Type} {post : Int32 → S → Prop} {w : va_W} {w1 : S → va_W} {sz : Nat} {v : Int32} (hx : p.tables.exec = Jvm.exec) (hb : c.code = cc) (hr : meth.sig.returnType = some .boolean) (hlocks : meth.locks = false) (hn : narrow .boolean (.int v) = .int v) (u : S) (hp : post v u) (hP : va_P (dC, dI) cl2 (w1 u) H) (hD : va_D (va_A w sz) (w1 u)) (hS : va_S (va_A w sz) s.heap H locs) (hdg : decode cc pc = .ok (.ireturn, 1)) : W p l e R s m args below meth c H locs cells slots (MQ below (gQi (dC, dI) post w w1 sz) args s cells slots (va_A w sz)) (F0 m pc ls [.int v]) :=
  W.zret hx hb hr hn (fun t ht hW => ⟨⟨v, u, rfl, hp, by rw [ht]; exact hP, hD⟩, hS.F ht⟩) hS.2.2 hdg hlocks
theorem gretv {S : Type} {post : S → Prop} {w : va_W} {w1 : S → va_W} {sz : Nat} (hx : p.tables.exec = Jvm.exec) (hb : c.code = cc) (hr : meth.sig.returnType = none) (hlocks : meth.locks = false) (u : S) (hp : post u) (hP : va_P (dC, dI) cl2 (w1 u) H) (hD : va_D (va_A w sz) (w1 u)) (hS : va_S (va_A w sz) s.heap H locs) (hdg : decode cc pc = .ok (.return_, 1)) : W p l e R s m args below meth c H locs cells slots (MQ below (gQv (dC, dI) post w w1 sz) args s cells slots (va_A w sz)) (F0 m pc ls []) :=
  W.vret hx hb hr (fun t ht hW => ⟨⟨u, rfl, hp, by rw [ht]; exact hP, hD⟩, hS.F ht⟩) hS.2.2 hdg hlocks
/-- a call through the object with the whole world handed over, an int back -/
theorem gcalli {S : Type} {post : Int32 → S → Prop} {w : va_W} {w1 : S → va_W} {ci q0 b nL index maxL n : Nat} {qc : vw_C} {fs As : List Value} {y : MethodName} {bytes : ByteArray} {ret : Option FieldType} {ws : List Cond} {rm : Room} {own : String}
    (S0 : CallFix p m c cc nL s args lw_all own) (hM : Met l y ws rm (gP (dC, dI) tys w H.size (.ref b :: As)) (gQi (dC, dI) post w w1 H.size) 0 0 (va_A w H.size)) (cw : CallW R s args own qc.1 index y bytes maxL ret ws rm 0 0 n)
    (hK : va_K (dC, dI) cl2 tys s) (hP : va_P (dC, dI) cl2 w H) (hD : va_D A w) (hS : va_S A H0 H locs) (hA : ∀ q, H0.size ≤ q → A q) (hc : cl2[ci]? = some qc) (he : w[q0]? = some (b, .inr (ci, fs)))
    (hsz : ls.size = nL) (hst : st = As.reverse ++ .ref b :: rest) (hW : (rest.map fun v => v.category).sum ≤ 8) (hdg : decode cc pc = .ok (.invokevirtual index, 3)) (hf : cells ≤ R.cells ∧ slots ≤ R.slots)
    (kk : ∀ (r : Int32) (u : S) (H1 : Heap) (locs1 : List Loc), post r u → va_P (dC, dI) cl2 (w1 u) H1 → va_D A (w1 u) → va_S A H0 H1 locs1 → W p l e R s m args below meth c H1 locs1 cells slots Q (F0 m (pc + 3) ls (.int r :: rest)))
    (hn : As.length = n := by rfl) : W p l e R s m args below meth c H locs cells slots Q (F0 m pc ls st) := by
  have hF : ∀ q, va_A w H.size q → A q := by
    intro q h
    rcases h with ⟨k, e, h⟩ | h
    · exact hD.2 k _ h
    · exact hA q (Nat.le_trans hS.1 h)
  refine va_calli (va_runV (As := As) (rest := rest) S0 hM cw ⟨fun a U g mk q => by obtain ⟨q0, q1, qP, qK, qD⟩ := q; exact ⟨q0, q1, qP, va_K.moved (u := U) (U := U.calling g mk a) (Vm.Alike.refl U.vm) qK, qD⟩, va_recv hK hP (ci := ci) (q0 := q0) hc he, fun U hU hW => ⟨rfl, by rw [hU], by rw [hU]; exact hP, va_K.moved hW.alike hK, hD.weaken (fun _ _ _ _ => trivial)⟩⟩ rfl hn hsz hst (lv_room hW) hdg hf) hS (fun q _ h => hF q h) hF (fun r u t H1 locs1 ht hvm hw hB hz hk hS1 => ?_)
  obtain ⟨hP1, hD1⟩ := hB
  rw [ht] at hP1
  exact kk r u H1 locs1 hw hP1 (hD1.weaken (fun k q _ h => hF q.1 h)) hS1
/-- the same, nothing back -/
theorem gcallv {S : Type} {post : S → Prop} {w : va_W} {w1 : S → va_W} {ci q0 b nL index maxL n : Nat} {qc : vw_C} {fs As : List Value} {y : MethodName} {bytes : ByteArray} {ret : Option FieldType} {ws : List Cond} {rm : Room} {own : String}
    (S0 : CallFix p m c cc nL s args lw_all own) (hM : Met l y ws rm (gP (dC, dI) tys w H.size (.ref b :: As)) (gQv (dC, dI) post w w1 H.size) 0 0 (va_A w H.size)) (cw : CallW R s args own qc.1 index y bytes maxL ret ws rm 0 0 n)
    (hK : va_K (dC, dI) cl2 tys s) (hP : va_P (dC, dI) cl2 w H) (hD : va_D A w) (hS : va_S A H0 H locs) (hA : ∀ q, H0.size ≤ q → A q) (hc : cl2[ci]? = some qc) (he : w[q0]? = some (b, .inr (ci, fs)))
    (hsz : ls.size = nL) (hst : st = As.reverse ++ .ref b :: rest) (hW : (rest.map fun v => v.category).sum ≤ 8) (hdg : decode cc pc = .ok (.invokevirtual index, 3)) (hf : cells ≤ R.cells ∧ slots ≤ R.slots)
    (kk : ∀ (u : S) (H1 : Heap) (locs1 : List Loc), post u → va_P (dC, dI) cl2 (w1 u) H1 → va_D A (w1 u) → va_S A H0 H1 locs1 → W p l e R s m args below meth c H1 locs1 cells slots Q (F0 m (pc + 3) ls rest))
    (hn : As.length = n := by rfl) : W p l e R s m args below meth c H locs cells slots Q (F0 m pc ls st) := by
  have hF : ∀ q, va_A w H.size q → A q := by
    intro q h
    rcases h with ⟨k, e, h⟩ | h
    · exact hD.2 k _ h
    · exact hA q (Nat.le_trans hS.1 h)
  refine va_callv (va_runV (As := As) (rest := rest) S0 hM cw ⟨fun a U g mk q => by obtain ⟨q0, q1, qP, qK, qD⟩ := q; exact ⟨q0, q1, qP, va_K.moved (u := U) (U := U.calling g mk a) (Vm.Alike.refl U.vm) qK, qD⟩, va_recv hK hP (ci := ci) (q0 := q0) hc he, fun U hU hW => ⟨rfl, by rw [hU], by rw [hU]; exact hP, va_K.moved hW.alike hK, hD.weaken (fun _ _ _ _ => trivial)⟩⟩ rfl hn hsz hst (lv_room hW) hdg hf) hS (fun q _ h => hF q h) hF (fun u t H1 locs1 ht hvm hw hB hz hk hS1 => ?_)
  obtain ⟨hP1, hD1⟩ := hB
  rw [ht] at hP1
  exact kk u H1 locs1 hw hP1 (hD1.weaken (fun k q _ h => hF q.1 h)) hS1

section GX1
variable {cI cB : ClassId} {ad : Nat → Nat} {n : Int32} {ev : Int32} {at_ : Nat → Int32} {tg : Nat → Int32} {ac : Int32} {re : Int32} {un : Int32} {ch : Int32} {fa : Nat → Int32} {fr : Nat → Int32} {fu : Nat → Int32} {fg : Nat → Int32} {ft : Nat → Int32} {se : Int32} {kd : Nat → Int32} {rg : Nat → Int32}
theorem gX1_at_ (hx : p.tables.exec = Jvm.exec) (hb : c.code = cc) (hts : ∀ w ∈ lw_all, w.before args s = true) (hown : s.vm.findClass RX1 = some m.cls) (hK : va_K (dC, dI) cl2 tys s) (hP : va_P (dC, dI) cl2 (wL cI cB ad n ev at_ tg ac re un ch fa fr fu fg ft se kd rg) H) (hdg : decode cc pc = .ok (.getfield 7, 3)) (kk : W p l e R s m args below meth c H locs cells slots Q (F0 m (pc + 3) ls (.ref (ad 2) :: rest))) : W p l e R s m args below meth c H locs cells slots Q (F0 m pc ls (.ref (ad 0) :: rest)) :=
  va_get (D := (dC, dI)) (ci := 0) (v := .ref (ad 2)) (C := RX1) (T := TX1) (N := 16) hx hb hts in_X1 hown hK hP 0 rfl rfl 2 (by decide) (hts _ q31) (fun _ h9 => h9) rfl hdg kk
theorem lX1_at_ (hx : p.tables.exec = Jvm.exec) (hb : c.code = cc) (hK : va_K (dC, dI) cl2 (tyL cI cB) s) (hP : va_P (dC, dI) cl2 (wL cI cB ad n ev at_ tg ac re un ch fa fr fu fg ft se kd rg) H) {i : Int32} (j : Nat) (hi : i = nI j) (hj : j < 8) (hdg : decode cc pc = .ok (.iaload, 1)) (kk : W p l e R s m args below meth c H locs cells slots Q (F0 m (pc + 1) ls (.int (at_ j) :: rest))) : W p l e R s m args below meth c H locs cells slots Q (F0 m pc ls (.int i :: .ref (ad 2) :: rest)) := by
  subst hi
  refine va_iald hx hb hK hP 1 0 rfl rfl (vp_in_nI hj (by decide)) hdg ?_
  rw [nI_clamp (Nat.lt_trans hj (by decide))]
  exact kk
theorem sX1_at_ (hx : p.tables.exec = Jvm.exec) (hb : c.code = cc) (hK : va_K (dC, dI) cl2 (tyL cI cB) s) (hP : va_P (dC, dI) cl2 (wL cI cB ad n ev at_ tg ac re un ch fa fr fu fg ft se kd rg) H) (hD : va_D A (wL cI cB ad n ev at_ tg ac re un ch fa fr fu fg ft se kd rg)) (hS : va_S A H0 H locs) {i x : Int32} (j : Nat) (hi : i = nI j) (hj : j < 8) (hdg : decode cc pc = .ok (.iastore, 1)) (kk : ∀ (H1 : Heap) (locs1 : List Loc), va_P (dC, dI) cl2 (wL cI cB ad n ev (upd at_ j x) tg ac re un ch fa fr fu fg ft se kd rg) H1 → va_D A (wL cI cB ad n ev (upd at_ j x) tg ac re un ch fa fr fu fg ft se kd rg) → va_S A H0 H1 locs1 → W p l e R s m args below meth c H1 locs1 cells slots Q (F0 m (pc + 1) ls rest)) : W p l e R s m args below meth c H locs cells slots Q (F0 m pc ls (.int x :: .int i :: .ref (ad 2) :: rest)) := by
  subst hi
  refine va_iast hx hb hK hP hD hS 1 0 rfl rfl (vp_in_nI hj (by decide)) hdg ?_
  rw [nI_clamp (Nat.lt_trans hj (by decide))]
  exact kk
theorem gX1_tg (hx : p.tables.exec = Jvm.exec) (hb : c.code = cc) (hts : ∀ w ∈ lw_all, w.before args s = true) (hown : s.vm.findClass RX1 = some m.cls) (hK : va_K (dC, dI) cl2 tys s) (hP : va_P (dC, dI) cl2 (wL cI cB ad n ev at_ tg ac re un ch fa fr fu fg ft se kd rg) H) (hdg : decode cc pc = .ok (.getfield 13, 3)) (kk : W p l e R s m args below meth c H locs cells slots Q (F0 m (pc + 3) ls (.ref (ad 3) :: rest))) : W p l e R s m args below meth c H locs cells slots Q (F0 m pc ls (.ref (ad 0) :: rest)) :=
  va_get (D := (dC, dI)) (ci := 0) (v := .ref (ad 3)) (C := RX1) (T := TX1) (N := 16) hx hb hts in_X1 hown hK hP 0 rfl rfl 3 (by decide) (hts _ q32) (fun _ h9 => h9) rfl hdg kk
theorem lX1_tg (hx : p.tables.exec = Jvm.exec) (hb : c.code = cc) (hK : va_K (dC, dI) cl2 (tyL cI cB) s) (hP : va_P (dC, dI) cl2 (wL cI cB ad n ev at_ tg ac re un ch fa fr fu fg ft se kd rg) H) {i : Int32} (j : Nat) (hi : i = nI j) (hj : j < 8) (hdg : decode cc pc = .ok (.iaload, 1)) (kk : W p l e R s m args below meth c H locs cells slots Q (F0 m (pc + 1) ls (.int (tg j) :: rest))) : W p l e R s m args below meth c H locs cells slots Q (F0 m pc ls (.int i :: .ref (ad 3) :: rest)) := by
  subst hi
  refine va_iald hx hb hK hP 2 0 rfl rfl (vp_in_nI hj (by decide)) hdg ?_
  rw [nI_clamp (Nat.lt_trans hj (by decide))]
  exact kk
theorem sX1_tg (hx : p.tables.exec = Jvm.exec) (hb : c.code = cc) (hK : va_K (dC, dI) cl2 (tyL cI cB) s) (hP : va_P (dC, dI) cl2 (wL cI cB ad n ev at_ tg ac re un ch fa fr fu fg ft se kd rg) H) (hD : va_D A (wL cI cB ad n ev at_ tg ac re un ch fa fr fu fg ft se kd rg)) (hS : va_S A H0 H locs) {i x : Int32} (j : Nat) (hi : i = nI j) (hj : j < 8) (hdg : decode cc pc = .ok (.iastore, 1)) (kk : ∀ (H1 : Heap) (locs1 : List Loc), va_P (dC, dI) cl2 (wL cI cB ad n ev at_ (upd tg j x) ac re un ch fa fr fu fg ft se kd rg) H1 → va_D A (wL cI cB ad n ev at_ (upd tg j x) ac re un ch fa fr fu fg ft se kd rg) → va_S A H0 H1 locs1 → W p l e R s m args below meth c H1 locs1 cells slots Q (F0 m (pc + 1) ls rest)) : W p l e R s m args below meth c H locs cells slots Q (F0 m pc ls (.int x :: .int i :: .ref (ad 3) :: rest)) := by
  subst hi
  refine va_iast hx hb hK hP hD hS 2 0 rfl rfl (vp_in_nI hj (by decide)) hdg ?_
  rw [nI_clamp (Nat.lt_trans hj (by decide))]
  exact kk
theorem gX1_fa (hx : p.tables.exec = Jvm.exec) (hb : c.code = cc) (hts : ∀ w ∈ lw_all, w.before args s = true) (hown : s.vm.findClass RX1 = some m.cls) (hK : va_K (dC, dI) cl2 tys s) (hP : va_P (dC, dI) cl2 (wL cI cB ad n ev at_ tg ac re un ch fa fr fu fg ft se kd rg) H) (hdg : decode cc pc = .ok (.getfield 16, 3)) (kk : W p l e R s m args below meth c H locs cells slots Q (F0 m (pc + 3) ls (.ref (ad 8) :: rest))) : W p l e R s m args below meth c H locs cells slots Q (F0 m pc ls (.ref (ad 0) :: rest)) :=
  va_get (D := (dC, dI)) (ci := 0) (v := .ref (ad 8)) (C := RX1) (T := TX1) (N := 16) hx hb hts in_X1 hown hK hP 0 rfl rfl 8 (by decide) (hts _ q37) (fun _ h9 => h9) rfl hdg kk
theorem lX1_fa (hx : p.tables.exec = Jvm.exec) (hb : c.code = cc) (hK : va_K (dC, dI) cl2 (tyL cI cB) s) (hP : va_P (dC, dI) cl2 (wL cI cB ad n ev at_ tg ac re un ch fa fr fu fg ft se kd rg) H) {i : Int32} (j : Nat) (hi : i = nI j) (hj : j < 9) (hdg : decode cc pc = .ok (.iaload, 1)) (kk : W p l e R s m args below meth c H locs cells slots Q (F0 m (pc + 1) ls (.int (fa j) :: rest))) : W p l e R s m args below meth c H locs cells slots Q (F0 m pc ls (.int i :: .ref (ad 8) :: rest)) := by
  subst hi
  refine va_iald hx hb hK hP 3 0 rfl rfl (vp_in_nI hj (by decide)) hdg ?_
  rw [nI_clamp (Nat.lt_trans hj (by decide))]
  exact kk
theorem sX1_fa (hx : p.tables.exec = Jvm.exec) (hb : c.code = cc) (hK : va_K (dC, dI) cl2 (tyL cI cB) s) (hP : va_P (dC, dI) cl2 (wL cI cB ad n ev at_ tg ac re un ch fa fr fu fg ft se kd rg) H) (hD : va_D A (wL cI cB ad n ev at_ tg ac re un ch fa fr fu fg ft se kd rg)) (hS : va_S A H0 H locs) {i x : Int32} (j : Nat) (hi : i = nI j) (hj : j < 9) (hdg : decode cc pc = .ok (.iastore, 1)) (kk : ∀ (H1 : Heap) (locs1 : List Loc), va_P (dC, dI) cl2 (wL cI cB ad n ev at_ tg ac re un ch (upd fa j x) fr fu fg ft se kd rg) H1 → va_D A (wL cI cB ad n ev at_ tg ac re un ch (upd fa j x) fr fu fg ft se kd rg) → va_S A H0 H1 locs1 → W p l e R s m args below meth c H1 locs1 cells slots Q (F0 m (pc + 1) ls rest)) : W p l e R s m args below meth c H locs cells slots Q (F0 m pc ls (.int x :: .int i :: .ref (ad 8) :: rest)) := by
  subst hi
  refine va_iast hx hb hK hP hD hS 3 0 rfl rfl (vp_in_nI hj (by decide)) hdg ?_
  rw [nI_clamp (Nat.lt_trans hj (by decide))]
  exact kk
theorem gX1_fr (hx : p.tables.exec = Jvm.exec) (hb : c.code = cc) (hts : ∀ w ∈ lw_all, w.before args s = true) (hown : s.vm.findClass RX1 = some m.cls) (hK : va_K (dC, dI) cl2 tys s) (hP : va_P (dC, dI) cl2 (wL cI cB ad n ev at_ tg ac re un ch fa fr fu fg ft se kd rg) H) (hdg : decode cc pc = .ok (.getfield 19, 3)) (kk : W p l e R s m args below meth c H locs cells slots Q (F0 m (pc + 3) ls (.ref (ad 9) :: rest))) : W p l e R s m args below meth c H locs cells slots Q (F0 m pc ls (.ref (ad 0) :: rest)) :=
  va_get (D := (dC, dI)) (ci := 0) (v := .ref (ad 9)) (C := RX1) (T := TX1) (N := 16) hx hb hts in_X1 hown hK hP 0 rfl rfl 9 (by decide) (hts _ q38) (fun _ h9 => h9) rfl hdg kk
theorem lX1_fr (hx : p.tables.exec = Jvm.exec) (hb : c.code = cc) (hK : va_K (dC, dI) cl2 (tyL cI cB) s) (hP : va_P (dC, dI) cl2 (wL cI cB ad n ev at_ tg ac re un ch fa fr fu fg ft se kd rg) H) {i : Int32} (j : Nat) (hi : i = nI j) (hj : j < 9) (hdg : decode cc pc = .ok (.iaload, 1)) (kk : W p l e R s m args below meth c H locs cells slots Q (F0 m (pc + 1) ls (.int (fr j) :: rest))) : W p l e R s m args below meth c H locs cells slots Q (F0 m pc ls (.int i :: .ref (ad 9) :: rest)) := by
  subst hi
  refine va_iald hx hb hK hP 4 0 rfl rfl (vp_in_nI hj (by decide)) hdg ?_
  rw [nI_clamp (Nat.lt_trans hj (by decide))]
  exact kk
theorem sX1_fr (hx : p.tables.exec = Jvm.exec) (hb : c.code = cc) (hK : va_K (dC, dI) cl2 (tyL cI cB) s) (hP : va_P (dC, dI) cl2 (wL cI cB ad n ev at_ tg ac re un ch fa fr fu fg ft se kd rg) H) (hD : va_D A (wL cI cB ad n ev at_ tg ac re un ch fa fr fu fg ft se kd rg)) (hS : va_S A H0 H locs) {i x : Int32} (j : Nat) (hi : i = nI j) (hj : j < 9) (hdg : decode cc pc = .ok (.iastore, 1)) (kk : ∀ (H1 : Heap) (locs1 : List Loc), va_P (dC, dI) cl2 (wL cI cB ad n ev at_ tg ac re un ch fa (upd fr j x) fu fg ft se kd rg) H1 → va_D A (wL cI cB ad n ev at_ tg ac re un ch fa (upd fr j x) fu fg ft se kd rg) → va_S A H0 H1 locs1 → W p l e R s m args below meth c H1 locs1 cells slots Q (F0 m (pc + 1) ls rest)) : W p l e R s m args below meth c H locs cells slots Q (F0 m pc ls (.int x :: .int i :: .ref (ad 9) :: rest)) := by
  subst hi
  refine va_iast hx hb hK hP hD hS 4 0 rfl rfl (vp_in_nI hj (by decide)) hdg ?_
  rw [nI_clamp (Nat.lt_trans hj (by decide))]
  exact kk
theorem gX1_fu (hx : p.tables.exec = Jvm.exec) (hb : c.code = cc) (hts : ∀ w ∈ lw_all, w.before args s = true) (hown : s.vm.findClass RX1 = some m.cls) (hK : va_K (dC, dI) cl2 tys s) (hP : va_P (dC, dI) cl2 (wL cI cB ad n ev at_ tg ac re un ch fa fr fu fg ft se kd rg) H) (hdg : decode cc pc = .ok (.getfield 22, 3)) (kk : W p l e R s m args below meth c H locs cells slots Q (F0 m (pc + 3) ls (.ref (ad 10) :: rest))) : W p l e R s m args below meth c H locs cells slots Q (F0 m pc ls (.ref (ad 0) :: rest)) :=
  va_get (D := (dC, dI)) (ci := 0) (v := .ref (ad 10)) (C := RX1) (T := TX1) (N := 16) hx hb hts in_X1 hown hK hP 0 rfl rfl 10 (by decide) (hts _ q39) (fun _ h9 => h9) rfl hdg kk
theorem lX1_fu (hx : p.tables.exec = Jvm.exec) (hb : c.code = cc) (hK : va_K (dC, dI) cl2 (tyL cI cB) s) (hP : va_P (dC, dI) cl2 (wL cI cB ad n ev at_ tg ac re un ch fa fr fu fg ft se kd rg) H) {i : Int32} (j : Nat) (hi : i = nI j) (hj : j < 9) (hdg : decode cc pc = .ok (.iaload, 1)) (kk : W p l e R s m args below meth c H locs cells slots Q (F0 m (pc + 1) ls (.int (fu j) :: rest))) : W p l e R s m args below meth c H locs cells slots Q (F0 m pc ls (.int i :: .ref (ad 10) :: rest)) := by
  subst hi
  refine va_iald hx hb hK hP 5 0 rfl rfl (vp_in_nI hj (by decide)) hdg ?_
  rw [nI_clamp (Nat.lt_trans hj (by decide))]
  exact kk
theorem sX1_fu (hx : p.tables.exec = Jvm.exec) (hb : c.code = cc) (hK : va_K (dC, dI) cl2 (tyL cI cB) s) (hP : va_P (dC, dI) cl2 (wL cI cB ad n ev at_ tg ac re un ch fa fr fu fg ft se kd rg) H) (hD : va_D A (wL cI cB ad n ev at_ tg ac re un ch fa fr fu fg ft se kd rg)) (hS : va_S A H0 H locs) {i x : Int32} (j : Nat) (hi : i = nI j) (hj : j < 9) (hdg : decode cc pc = .ok (.iastore, 1)) (kk : ∀ (H1 : Heap) (locs1 : List Loc), va_P (dC, dI) cl2 (wL cI cB ad n ev at_ tg ac re un ch fa fr (upd fu j x) fg ft se kd rg) H1 → va_D A (wL cI cB ad n ev at_ tg ac re un ch fa fr (upd fu j x) fg ft se kd rg) → va_S A H0 H1 locs1 → W p l e R s m args below meth c H1 locs1 cells slots Q (F0 m (pc + 1) ls rest)) : W p l e R s m args below meth c H locs cells slots Q (F0 m pc ls (.int x :: .int i :: .ref (ad 10) :: rest)) := by
  subst hi
  refine va_iast hx hb hK hP hD hS 5 0 rfl rfl (vp_in_nI hj (by decide)) hdg ?_
  rw [nI_clamp (Nat.lt_trans hj (by decide))]
  exact kk
theorem gX1_fg (hx : p.tables.exec = Jvm.exec) (hb : c.code = cc) (hts : ∀ w ∈ lw_all, w.before args s = true) (hown : s.vm.findClass RX1 = some m.cls) (hK : va_K (dC, dI) cl2 tys s) (hP : va_P (dC, dI) cl2 (wL cI cB ad n ev at_ tg ac re un ch fa fr fu fg ft se kd rg) H) (hdg : decode cc pc = .ok (.getfield 25, 3)) (kk : W p l e R s m args below meth c H locs cells slots Q (F0 m (pc + 3) ls (.ref (ad 11) :: rest))) : W p l e R s m args below meth c H locs cells slots Q (F0 m pc ls (.ref (ad 0) :: rest)) :=
  va_get (D := (dC, dI)) (ci := 0) (v := .ref (ad 11)) (C := RX1) (T := TX1) (N := 16) hx hb hts in_X1 hown hK hP 0 rfl rfl 11 (by decide) (hts _ q40) (fun _ h9 => h9) rfl hdg kk
theorem lX1_fg (hx : p.tables.exec = Jvm.exec) (hb : c.code = cc) (hK : va_K (dC, dI) cl2 (tyL cI cB) s) (hP : va_P (dC, dI) cl2 (wL cI cB ad n ev at_ tg ac re un ch fa fr fu fg ft se kd rg) H) {i : Int32} (j : Nat) (hi : i = nI j) (hj : j < 9) (hdg : decode cc pc = .ok (.baload, 1)) (kk : W p l e R s m args below meth c H locs cells slots Q (F0 m (pc + 1) ls (.int (fg j) :: rest))) : W p l e R s m args below meth c H locs cells slots Q (F0 m pc ls (.int i :: .ref (ad 11) :: rest)) := by
  subst hi
  refine va_bald hx hb hK hP 6 1 rfl rfl (vp_in_nI hj (by decide)) hdg ?_
  rw [nI_clamp (Nat.lt_trans hj (by decide))]
  exact kk
theorem sX1_fg (hx : p.tables.exec = Jvm.exec) (hb : c.code = cc) (hK : va_K (dC, dI) cl2 (tyL cI cB) s) (hP : va_P (dC, dI) cl2 (wL cI cB ad n ev at_ tg ac re un ch fa fr fu fg ft se kd rg) H) (hD : va_D A (wL cI cB ad n ev at_ tg ac re un ch fa fr fu fg ft se kd rg)) (hS : va_S A H0 H locs) {i x : Int32} (j : Nat) (hi : i = nI j) (hj : j < 9) {y : Int32} (hy : vp_nar .byte x = y) (hdg : decode cc pc = .ok (.bastore, 1)) (kk : ∀ (H1 : Heap) (locs1 : List Loc), va_P (dC, dI) cl2 (wL cI cB ad n ev at_ tg ac re un ch fa fr fu (upd fg j y) ft se kd rg) H1 → va_D A (wL cI cB ad n ev at_ tg ac re un ch fa fr fu (upd fg j y) ft se kd rg) → va_S A H0 H1 locs1 → W p l e R s m args below meth c H1 locs1 cells slots Q (F0 m (pc + 1) ls rest)) : W p l e R s m args below meth c H locs cells slots Q (F0 m pc ls (.int x :: .int i :: .ref (ad 11) :: rest)) := by
  subst hi
  subst hy
  refine va_bast hx hb hK hP hD hS 6 1 rfl rfl (vp_in_nI hj (by decide)) hdg ?_
  rw [nI_clamp (Nat.lt_trans hj (by decide))]
  exact kk
theorem gX1_ft (hx : p.tables.exec = Jvm.exec) (hb : c.code = cc) (hts : ∀ w ∈ lw_all, w.before args s = true) (hown : s.vm.findClass RX1 = some m.cls) (hK : va_K (dC, dI) cl2 tys s) (hP : va_P (dC, dI) cl2 (wL cI cB ad n ev at_ tg ac re un ch fa fr fu fg ft se kd rg) H) (hdg : decode cc pc = .ok (.getfield 29, 3)) (kk : W p l e R s m args below meth c H locs cells slots Q (F0 m (pc + 3) ls (.ref (ad 12) :: rest))) : W p l e R s m args below meth c H locs cells slots Q (F0 m pc ls (.ref (ad 0) :: rest)) :=
  va_get (D := (dC, dI)) (ci := 0) (v := .ref (ad 12)) (C := RX1) (T := TX1) (N := 16) hx hb hts in_X1 hown hK hP 0 rfl rfl 12 (by decide) (hts _ q41) (fun _ h9 => h9) rfl hdg kk
theorem lX1_ft (hx : p.tables.exec = Jvm.exec) (hb : c.code = cc) (hK : va_K (dC, dI) cl2 (tyL cI cB) s) (hP : va_P (dC, dI) cl2 (wL cI cB ad n ev at_ tg ac re un ch fa fr fu fg ft se kd rg) H) {i : Int32} (j : Nat) (hi : i = nI j) (hj : j < 9) (hdg : decode cc pc = .ok (.baload, 1)) (kk : W p l e R s m args below meth c H locs cells slots Q (F0 m (pc + 1) ls (.int (ft j) :: rest))) : W p l e R s m args below meth c H locs cells slots Q (F0 m pc ls (.int i :: .ref (ad 12) :: rest)) := by
  subst hi
  refine va_bald hx hb hK hP 7 1 rfl rfl (vp_in_nI hj (by decide)) hdg ?_
  rw [nI_clamp (Nat.lt_trans hj (by decide))]
  exact kk
theorem sX1_ft (hx : p.tables.exec = Jvm.exec) (hb : c.code = cc) (hK : va_K (dC, dI) cl2 (tyL cI cB) s) (hP : va_P (dC, dI) cl2 (wL cI cB ad n ev at_ tg ac re un ch fa fr fu fg ft se kd rg) H) (hD : va_D A (wL cI cB ad n ev at_ tg ac re un ch fa fr fu fg ft se kd rg)) (hS : va_S A H0 H locs) {i x : Int32} (j : Nat) (hi : i = nI j) (hj : j < 9) {y : Int32} (hy : vp_nar .byte x = y) (hdg : decode cc pc = .ok (.bastore, 1)) (kk : ∀ (H1 : Heap) (locs1 : List Loc), va_P (dC, dI) cl2 (wL cI cB ad n ev at_ tg ac re un ch fa fr fu fg (upd ft j y) se kd rg) H1 → va_D A (wL cI cB ad n ev at_ tg ac re un ch fa fr fu fg (upd ft j y) se kd rg) → va_S A H0 H1 locs1 → W p l e R s m args below meth c H1 locs1 cells slots Q (F0 m (pc + 1) ls rest)) : W p l e R s m args below meth c H locs cells slots Q (F0 m pc ls (.int x :: .int i :: .ref (ad 12) :: rest)) := by
  subst hi
  subst hy
  refine va_bast hx hb hK hP hD hS 7 1 rfl rfl (vp_in_nI hj (by decide)) hdg ?_
  rw [nI_clamp (Nat.lt_trans hj (by decide))]
  exact kk
theorem gX1_kd (hx : p.tables.exec = Jvm.exec) (hb : c.code = cc) (hts : ∀ w ∈ lw_all, w.before args s = true) (hown : s.vm.findClass RX1 = some m.cls) (hK : va_K (dC, dI) cl2 tys s) (hP : va_P (dC, dI) cl2 (wL cI cB ad n ev at_ tg ac re un ch fa fr fu fg ft se kd rg) H) (hdg : decode cc pc = .ok (.getfield 32, 3)) (kk : W p l e R s m args below meth c H locs cells slots Q (F0 m (pc + 3) ls (.ref (ad 14) :: rest))) : W p l e R s m args below meth c H locs cells slots Q (F0 m pc ls (.ref (ad 0) :: rest)) :=
  va_get (D := (dC, dI)) (ci := 0) (v := .ref (ad 14)) (C := RX1) (T := TX1) (N := 16) hx hb hts in_X1 hown hK hP 0 rfl rfl 14 (by decide) (hts _ q43) (fun _ h9 => h9) rfl hdg kk
theorem lX1_kd (hx : p.tables.exec = Jvm.exec) (hb : c.code = cc) (hK : va_K (dC, dI) cl2 (tyL cI cB) s) (hP : va_P (dC, dI) cl2 (wL cI cB ad n ev at_ tg ac re un ch fa fr fu fg ft se kd rg) H) {i : Int32} (j : Nat) (hi : i = nI j) (hj : j < 256) (hdg : decode cc pc = .ok (.baload, 1)) (kk : W p l e R s m args below meth c H locs cells slots Q (F0 m (pc + 1) ls (.int (kd j) :: rest))) : W p l e R s m args below meth c H locs cells slots Q (F0 m pc ls (.int i :: .ref (ad 14) :: rest)) := by
  subst hi
  refine va_bald hx hb hK hP 8 1 rfl rfl (vp_in_nI hj (by decide)) hdg ?_
  rw [nI_clamp (Nat.lt_trans hj (by decide))]
  exact kk
theorem sX1_kd (hx : p.tables.exec = Jvm.exec) (hb : c.code = cc) (hK : va_K (dC, dI) cl2 (tyL cI cB) s) (hP : va_P (dC, dI) cl2 (wL cI cB ad n ev at_ tg ac re un ch fa fr fu fg ft se kd rg) H) (hD : va_D A (wL cI cB ad n ev at_ tg ac re un ch fa fr fu fg ft se kd rg)) (hS : va_S A H0 H locs) {i x : Int32} (j : Nat) (hi : i = nI j) (hj : j < 256) {y : Int32} (hy : vp_nar .byte x = y) (hdg : decode cc pc = .ok (.bastore, 1)) (kk : ∀ (H1 : Heap) (locs1 : List Loc), va_P (dC, dI) cl2 (wL cI cB ad n ev at_ tg ac re un ch fa fr fu fg ft se (upd kd j y) rg) H1 → va_D A (wL cI cB ad n ev at_ tg ac re un ch fa fr fu fg ft se (upd kd j y) rg) → va_S A H0 H1 locs1 → W p l e R s m args below meth c H1 locs1 cells slots Q (F0 m (pc + 1) ls rest)) : W p l e R s m args below meth c H locs cells slots Q (F0 m pc ls (.int x :: .int i :: .ref (ad 14) :: rest)) := by
  subst hi
  subst hy
  refine va_bast hx hb hK hP hD hS 8 1 rfl rfl (vp_in_nI hj (by decide)) hdg ?_
  rw [nI_clamp (Nat.lt_trans hj (by decide))]
  exact kk
theorem gX1_rg (hx : p.tables.exec = Jvm.exec) (hb : c.code = cc) (hts : ∀ w ∈ lw_all, w.before args s = true) (hown : s.vm.findClass RX1 = some m.cls) (hK : va_K (dC, dI) cl2 tys s) (hP : va_P (dC, dI) cl2 (wL cI cB ad n ev at_ tg ac re un ch fa fr fu fg ft se kd rg) H) (hdg : decode cc pc = .ok (.getfield 35, 3)) (kk : W p l e R s m args below meth c H locs cells slots Q (F0 m (pc + 3) ls (.ref (ad 15) :: rest))) : W p l e R s m args below meth c H locs cells slots Q (F0 m pc ls (.ref (ad 0) :: rest)) :=
  va_get (D := (dC, dI)) (ci := 0) (v := .ref (ad 15)) (C := RX1) (T := TX1) (N := 16) hx hb hts in_X1 hown hK hP 0 rfl rfl 15 (by decide) (hts _ q44) (fun _ h9 => h9) rfl hdg kk
theorem lX1_rg (hx : p.tables.exec = Jvm.exec) (hb : c.code = cc) (hK : va_K (dC, dI) cl2 (tyL cI cB) s) (hP : va_P (dC, dI) cl2 (wL cI cB ad n ev at_ tg ac re un ch fa fr fu fg ft se kd rg) H) {i : Int32} (j : Nat) (hi : i = nI j) (hj : j < 256) (hdg : decode cc pc = .ok (.iaload, 1)) (kk : W p l e R s m args below meth c H locs cells slots Q (F0 m (pc + 1) ls (.int (rg j) :: rest))) : W p l e R s m args below meth c H locs cells slots Q (F0 m pc ls (.int i :: .ref (ad 15) :: rest)) := by
  subst hi
  refine va_iald hx hb hK hP 9 0 rfl rfl (vp_in_nI hj (by decide)) hdg ?_
  rw [nI_clamp (Nat.lt_trans hj (by decide))]
  exact kk
theorem sX1_rg (hx : p.tables.exec = Jvm.exec) (hb : c.code = cc) (hK : va_K (dC, dI) cl2 (tyL cI cB) s) (hP : va_P (dC, dI) cl2 (wL cI cB ad n ev at_ tg ac re un ch fa fr fu fg ft se kd rg) H) (hD : va_D A (wL cI cB ad n ev at_ tg ac re un ch fa fr fu fg ft se kd rg)) (hS : va_S A H0 H locs) {i x : Int32} (j : Nat) (hi : i = nI j) (hj : j < 256) (hdg : decode cc pc = .ok (.iastore, 1)) (kk : ∀ (H1 : Heap) (locs1 : List Loc), va_P (dC, dI) cl2 (wL cI cB ad n ev at_ tg ac re un ch fa fr fu fg ft se kd (upd rg j x)) H1 → va_D A (wL cI cB ad n ev at_ tg ac re un ch fa fr fu fg ft se kd (upd rg j x)) → va_S A H0 H1 locs1 → W p l e R s m args below meth c H1 locs1 cells slots Q (F0 m (pc + 1) ls rest)) : W p l e R s m args below meth c H locs cells slots Q (F0 m pc ls (.int x :: .int i :: .ref (ad 15) :: rest)) := by
  subst hi
  refine va_iast hx hb hK hP hD hS 9 0 rfl rfl (vp_in_nI hj (by decide)) hdg ?_
  rw [nI_clamp (Nat.lt_trans hj (by decide))]
  exact kk
theorem gX1_n (hx : p.tables.exec = Jvm.exec) (hb : c.code = cc) (hts : ∀ w ∈ lw_all, w.before args s = true) (hown : s.vm.findClass RX1 = some m.cls) (hK : va_K (dC, dI) cl2 tys s) (hP : va_P (dC, dI) cl2 (wL cI cB ad n ev at_ tg ac re un ch fa fr fu fg ft se kd rg) H) (hdg : decode cc pc = .ok (.getfield 38, 3)) (kk : W p l e R s m args below meth c H locs cells slots Q (F0 m (pc + 3) ls (.int n :: rest))) : W p l e R s m args below meth c H locs cells slots Q (F0 m pc ls (.ref (ad 0) :: rest)) :=
  va_get (D := (dC, dI)) (ci := 0) (v := .int n) (C := RX1) (T := TX1) (N := 16) hx hb hts in_X1 hown hK hP 0 rfl rfl 0 (by decide) (hts _ q29) (fun _ h9 => h9) rfl hdg kk
theorem pX1_n (hx : p.tables.exec = Jvm.exec) (hb : c.code = cc) (hts : ∀ w ∈ lw_all, w.before args s = true) (hown : s.vm.findClass RX1 = some m.cls) (hK : va_K (dC, dI) cl2 tys s) (hP : va_P (dC, dI) cl2 (wL cI cB ad n ev at_ tg ac re un ch fa fr fu fg ft se kd rg) H) (hD : va_D A (wL cI cB ad n ev at_ tg ac re un ch fa fr fu fg ft se kd rg)) (hS : va_S A H0 H locs) {v : Int32} (hdg : decode cc pc = .ok (.putfield 38, 3)) (kk : ∀ (H1 : Heap) (locs1 : List Loc), va_P (dC, dI) cl2 (wL cI cB ad v ev at_ tg ac re un ch fa fr fu fg ft se kd rg) H1 → va_D A (wL cI cB ad v ev at_ tg ac re un ch fa fr fu fg ft se kd rg) → va_S A H0 H1 locs1 → W p l e R s m args below meth c H1 locs1 cells slots Q (F0 m (pc + 3) ls rest)) : W p l e R s m args below meth c H locs cells slots Q (F0 m pc ls (.int v :: .ref (ad 0) :: rest)) :=
  va_put (D := (dC, dI)) (ci := 0) (v := .int v) (ty := .int) (C := RX1) (T := TX1) (N := 16) hx hb hts in_X1 tyX1 tyX1_ok nmX1 hown hK hP hD hS 0 rfl rfl 0 (by decide) (hts _ q29) (fun _ h9 => h9) rfl (by decide +kernel) rfl rfl (Nat.le_of_ble_eq_true rfl) hdg kk
theorem gX1_ev (hx : p.tables.exec = Jvm.exec) (hb : c.code = cc) (hts : ∀ w ∈ lw_all, w.before args s = true) (hown : s.vm.findClass RX1 = some m.cls) (hK : va_K (dC, dI) cl2 tys s) (hP : va_P (dC, dI) cl2 (wL cI cB ad n ev at_ tg ac re un ch fa fr fu fg ft se kd rg) H) (hdg : decode cc pc = .ok (.getfield 42, 3)) (kk : W p l e R s m args below meth c H locs cells slots Q (F0 m (pc + 3) ls (.int ev :: rest))) : W p l e R s m args below meth c H locs cells slots Q (F0 m pc ls (.ref (ad 0) :: rest)) :=
  va_get (D := (dC, dI)) (ci := 0) (v := .int ev) (C := RX1) (T := TX1) (N := 16) hx hb hts in_X1 hown hK hP 0 rfl rfl 1 (by decide) (hts _ q30) (fun _ h9 => h9) rfl hdg kk
theorem pX1_ev (hx : p.tables.exec = Jvm.exec) (hb : c.code = cc) (hts : ∀ w ∈ lw_all, w.before args s = true) (hown : s.vm.findClass RX1 = some m.cls) (hK : va_K (dC, dI) cl2 tys s) (hP : va_P (dC, dI) cl2 (wL cI cB ad n ev at_ tg ac re un ch fa fr fu fg ft se kd rg) H) (hD : va_D A (wL cI cB ad n ev at_ tg ac re un ch fa fr fu fg ft se kd rg)) (hS : va_S A H0 H locs) {v : Int32} (hdg : decode cc pc = .ok (.putfield 42, 3)) (kk : ∀ (H1 : Heap) (locs1 : List Loc), va_P (dC, dI) cl2 (wL cI cB ad n v at_ tg ac re un ch fa fr fu fg ft se kd rg) H1 → va_D A (wL cI cB ad n v at_ tg ac re un ch fa fr fu fg ft se kd rg) → va_S A H0 H1 locs1 → W p l e R s m args below meth c H1 locs1 cells slots Q (F0 m (pc + 3) ls rest)) : W p l e R s m args below meth c H locs cells slots Q (F0 m pc ls (.int v :: .ref (ad 0) :: rest)) :=
  va_put (D := (dC, dI)) (ci := 0) (v := .int v) (ty := .int) (C := RX1) (T := TX1) (N := 16) hx hb hts in_X1 tyX1 tyX1_ok nmX1 hown hK hP hD hS 0 rfl rfl 1 (by decide) (hts _ q30) (fun _ h9 => h9) rfl (by decide +kernel) rfl rfl (Nat.le_of_ble_eq_true rfl) hdg kk
theorem gX1_se (hx : p.tables.exec = Jvm.exec) (hb : c.code = cc) (hts : ∀ w ∈ lw_all, w.before args s = true) (hown : s.vm.findClass RX1 = some m.cls) (hK : va_K (dC, dI) cl2 tys s) (hP : va_P (dC, dI) cl2 (wL cI cB ad n ev at_ tg ac re un ch fa fr fu fg ft se kd rg) H) (hdg : decode cc pc = .ok (.getfield 49, 3)) (kk : W p l e R s m args below meth c H locs cells slots Q (F0 m (pc + 3) ls (.int se :: rest))) : W p l e R s m args below meth c H locs cells slots Q (F0 m pc ls (.ref (ad 0) :: rest)) :=
  va_get (D := (dC, dI)) (ci := 0) (v := .int se) (C := RX1) (T := TX1) (N := 16) hx hb hts in_X1 hown hK hP 0 rfl rfl 13 (by decide) (hts _ q42) (fun _ h9 => h9) rfl hdg kk
theorem pX1_se (hx : p.tables.exec = Jvm.exec) (hb : c.code = cc) (hts : ∀ w ∈ lw_all, w.before args s = true) (hown : s.vm.findClass RX1 = some m.cls) (hK : va_K (dC, dI) cl2 tys s) (hP : va_P (dC, dI) cl2 (wL cI cB ad n ev at_ tg ac re un ch fa fr fu fg ft se kd rg) H) (hD : va_D A (wL cI cB ad n ev at_ tg ac re un ch fa fr fu fg ft se kd rg)) (hS : va_S A H0 H locs) {v : Int32} (hn : narrow .boolean (.int v) = .int v) (hft : fits .boolean (.int v) = true) (hdg : decode cc pc = .ok (.putfield 49, 3)) (kk : ∀ (H1 : Heap) (locs1 : List Loc), va_P (dC, dI) cl2 (wL cI cB ad n ev at_ tg ac re un ch fa fr fu fg ft v kd rg) H1 → va_D A (wL cI cB ad n ev at_ tg ac re un ch fa fr fu fg ft v kd rg) → va_S A H0 H1 locs1 → W p l e R s m args below meth c H1 locs1 cells slots Q (F0 m (pc + 3) ls rest)) : W p l e R s m args below meth c H locs cells slots Q (F0 m pc ls (.int v :: .ref (ad 0) :: rest)) :=
  va_put (D := (dC, dI)) (ci := 0) (v := .int v) (ty := .boolean) (C := RX1) (T := TX1) (N := 16) hx hb hts in_X1 tyX1 tyX1_ok nmX1 hown hK hP hD hS 0 rfl rfl 13 (by decide) (hts _ q42) (fun _ h9 => h9) rfl (by decide +kernel) hn hft (Nat.le_of_ble_eq_true rfl) hdg kk
theorem gX1_ac (hx : p.tables.exec = Jvm.exec) (hb : c.code = cc) (hts : ∀ w ∈ lw_all, w.before args s = true) (hown : s.vm.findClass RX1 = some m.cls) (hK : va_K (dC, dI) cl2 tys s) (hP : va_P (dC, dI) cl2 (wL cI cB ad n ev at_ tg ac re un ch fa fr fu fg ft se kd rg) H) (hdg : decode cc pc = .ok (.getfield 53, 3)) (kk : W p l e R s m args below meth c H locs cells slots Q (F0 m (pc + 3) ls (.int ac :: rest))) : W p l e R s m args below meth c H locs cells slots Q (F0 m pc ls (.ref (ad 0) :: rest)) :=
  va_get (D := (dC, dI)) (ci := 0) (v := .int ac) (C := RX1) (T := TX1) (N := 16) hx hb hts in_X1 hown hK hP 0 rfl rfl 4 (by decide) (hts _ q33) (fun _ h9 => h9) rfl hdg kk
theorem pX1_ac (hx : p.tables.exec = Jvm.exec) (hb : c.code = cc) (hts : ∀ w ∈ lw_all, w.before args s = true) (hown : s.vm.findClass RX1 = some m.cls) (hK : va_K (dC, dI) cl2 tys s) (hP : va_P (dC, dI) cl2 (wL cI cB ad n ev at_ tg ac re un ch fa fr fu fg ft se kd rg) H) (hD : va_D A (wL cI cB ad n ev at_ tg ac re un ch fa fr fu fg ft se kd rg)) (hS : va_S A H0 H locs) {v : Int32} (hdg : decode cc pc = .ok (.putfield 53, 3)) (kk : ∀ (H1 : Heap) (locs1 : List Loc), va_P (dC, dI) cl2 (wL cI cB ad n ev at_ tg v re un ch fa fr fu fg ft se kd rg) H1 → va_D A (wL cI cB ad n ev at_ tg v re un ch fa fr fu fg ft se kd rg) → va_S A H0 H1 locs1 → W p l e R s m args below meth c H1 locs1 cells slots Q (F0 m (pc + 3) ls rest)) : W p l e R s m args below meth c H locs cells slots Q (F0 m pc ls (.int v :: .ref (ad 0) :: rest)) :=
  va_put (D := (dC, dI)) (ci := 0) (v := .int v) (ty := .int) (C := RX1) (T := TX1) (N := 16) hx hb hts in_X1 tyX1 tyX1_ok nmX1 hown hK hP hD hS 0 rfl rfl 4 (by decide) (hts _ q33) (fun _ h9 => h9) rfl (by decide +kernel) rfl rfl (Nat.le_of_ble_eq_true rfl) hdg kk
theorem gX1_re (hx : p.tables.exec = Jvm.exec) (hb : c.code = cc) (hts : ∀ w ∈ lw_all, w.before args s = true) (hown : s.vm.findClass RX1 = some m.cls) (hK : va_K (dC, dI) cl2 tys s) (hP : va_P (dC, dI) cl2 (wL cI cB ad n ev at_ tg ac re un ch fa fr fu fg ft se kd rg) H) (hdg : decode cc pc = .ok (.getfield 56, 3)) (kk : W p l e R s m args below meth c H locs cells slots Q (F0 m (pc + 3) ls (.int re :: rest))) : W p l e R s m args below meth c H locs cells slots Q (F0 m pc ls (.ref (ad 0) :: rest)) :=
  va_get (D := (dC, dI)) (ci := 0) (v := .int re) (C := RX1) (T := TX1) (N := 16) hx hb hts in_X1 hown hK hP 0 rfl rfl 5 (by decide) (hts _ q34) (fun _ h9 => h9) rfl hdg kk
theorem pX1_re (hx : p.tables.exec = Jvm.exec) (hb : c.code = cc) (hts : ∀ w ∈ lw_all, w.before args s = true) (hown : s.vm.findClass RX1 = some m.cls) (hK : va_K (dC, dI) cl2 tys s) (hP : va_P (dC, dI) cl2 (wL cI cB ad n ev at_ tg ac re un ch fa fr fu fg ft se kd rg) H) (hD : va_D A (wL cI cB ad n ev at_ tg ac re un ch fa fr fu fg ft se kd rg)) (hS : va_S A H0 H locs) {v : Int32} (hdg : decode cc pc = .ok (.putfield 56, 3)) (kk : ∀ (H1 : Heap) (locs1 : List Loc), va_P (dC, dI) cl2 (wL cI cB ad n ev at_ tg ac v un ch fa fr fu fg ft se kd rg) H1 → va_D A (wL cI cB ad n ev at_ tg ac v un ch fa fr fu fg ft se kd rg) → va_S A H0 H1 locs1 → W p l e R s m args below meth c H1 locs1 cells slots Q (F0 m (pc + 3) ls rest)) : W p l e R s m args below meth c H locs cells slots Q (F0 m pc ls (.int v :: .ref (ad 0) :: rest)) :=
  va_put (D := (dC, dI)) (ci := 0) (v := .int v) (ty := .int) (C := RX1) (T := TX1) (N := 16) hx hb hts in_X1 tyX1 tyX1_ok nmX1 hown hK hP hD hS 0 rfl rfl 5 (by decide) (hts _ q34) (fun _ h9 => h9) rfl (by decide +kernel) rfl rfl (Nat.le_of_ble_eq_true rfl) hdg kk
theorem gX1_ch (hx : p.tables.exec = Jvm.exec) (hb : c.code = cc) (hts : ∀ w ∈ lw_all, w.before args s = true) (hown : s.vm.findClass RX1 = some m.cls) (hK : va_K (dC, dI) cl2 tys s) (hP : va_P (dC, dI) cl2 (wL cI cB ad n ev at_ tg ac re un ch fa fr fu fg ft se kd rg) H) (hdg : decode cc pc = .ok (.getfield 59, 3)) (kk : W p l e R s m args below meth c H locs cells slots Q (F0 m (pc + 3) ls (.int ch :: rest))) : W p l e R s m args below meth c H locs cells slots Q (F0 m pc ls (.ref (ad 0) :: rest)) :=
  va_get (D := (dC, dI)) (ci := 0) (v := .int ch) (C := RX1) (T := TX1) (N := 16) hx hb hts in_X1 hown hK hP 0 rfl rfl 7 (by decide) (hts _ q36) (fun _ h9 => h9) rfl hdg kk
theorem pX1_ch (hx : p.tables.exec = Jvm.exec) (hb : c.code = cc) (hts : ∀ w ∈ lw_all, w.before args s = true) (hown : s.vm.findClass RX1 = some m.cls) (hK : va_K (dC, dI) cl2 tys s) (hP : va_P (dC, dI) cl2 (wL cI cB ad n ev at_ tg ac re un ch fa fr fu fg ft se kd rg) H) (hD : va_D A (wL cI cB ad n ev at_ tg ac re un ch fa fr fu fg ft se kd rg)) (hS : va_S A H0 H locs) {v : Int32} (hn : narrow .boolean (.int v) = .int v) (hft : fits .boolean (.int v) = true) (hdg : decode cc pc = .ok (.putfield 59, 3)) (kk : ∀ (H1 : Heap) (locs1 : List Loc), va_P (dC, dI) cl2 (wL cI cB ad n ev at_ tg ac re un v fa fr fu fg ft se kd rg) H1 → va_D A (wL cI cB ad n ev at_ tg ac re un v fa fr fu fg ft se kd rg) → va_S A H0 H1 locs1 → W p l e R s m args below meth c H1 locs1 cells slots Q (F0 m (pc + 3) ls rest)) : W p l e R s m args below meth c H locs cells slots Q (F0 m pc ls (.int v :: .ref (ad 0) :: rest)) :=
  va_put (D := (dC, dI)) (ci := 0) (v := .int v) (ty := .boolean) (C := RX1) (T := TX1) (N := 16) hx hb hts in_X1 tyX1 tyX1_ok nmX1 hown hK hP hD hS 0 rfl rfl 7 (by decide) (hts _ q36) (fun _ h9 => h9) rfl (by decide +kernel) hn hft (Nat.le_of_ble_eq_true rfl) hdg kk
theorem gX1_un (hx : p.tables.exec = Jvm.exec) (hb : c.code = cc) (hts : ∀ w ∈ lw_all, w.before args s = true) (hown : s.vm.findClass RX1 = some m.cls) (hK : va_K (dC, dI) cl2 tys s) (hP : va_P (dC, dI) cl2 (wL cI cB ad n ev at_ tg ac re un ch fa fr fu fg ft se kd rg) H) (hdg : decode cc pc = .ok (.getfield 65, 3)) (kk : W p l e R s m args below meth c H locs cells slots Q (F0 m (pc + 3) ls (.int un :: rest))) : W p l e R s m args below meth c H locs cells slots Q (F0 m pc ls (.ref (ad 0) :: rest)) :=
  va_get (D := (dC, dI)) (ci := 0) (v := .int un) (C := RX1) (T := TX1) (N := 16) hx hb hts in_X1 hown hK hP 0 rfl rfl 6 (by decide) (hts _ q35) (fun _ h9 => h9) rfl hdg kk
theorem pX1_un (hx : p.tables.exec = Jvm.exec) (hb : c.code = cc) (hts : ∀ w ∈ lw_all, w.before args s = true) (hown : s.vm.findClass RX1 = some m.cls) (hK : va_K (dC, dI) cl2 tys s) (hP : va_P (dC, dI) cl2 (wL cI cB ad n ev at_ tg ac re un ch fa fr fu fg ft se kd rg) H) (hD : va_D A (wL cI cB ad n ev at_ tg ac re un ch fa fr fu fg ft se kd rg)) (hS : va_S A H0 H locs) {v : Int32} (hdg : decode cc pc = .ok (.putfield 65, 3)) (kk : ∀ (H1 : Heap) (locs1 : List Loc), va_P (dC, dI) cl2 (wL cI cB ad n ev at_ tg ac re v ch fa fr fu fg ft se kd rg) H1 → va_D A (wL cI cB ad n ev at_ tg ac re v ch fa fr fu fg ft se kd rg) → va_S A H0 H1 locs1 → W p l e R s m args below meth c H1 locs1 cells slots Q (F0 m (pc + 3) ls rest)) : W p l e R s m args below meth c H locs cells slots Q (F0 m pc ls (.int v :: .ref (ad 0) :: rest)) :=
  va_put (D := (dC, dI)) (ci := 0) (v := .int v) (ty := .int) (C := RX1) (T := TX1) (N := 16) hx hb hts in_X1 tyX1 tyX1_ok nmX1 hown hK hP hD hS 0 rfl rfl 6 (by decide) (hts _ q35) (fun _ h9 => h9) rfl (by decide +kernel) rfl rfl (Nat.le_of_ble_eq_true rfl) hdg kk
end GX1
section GX2
variable {cZ : ClassId} {bd : Nat → Nat} {n : Int32} {al : Int32} {th : Nat → Int32}
theorem gX2_th (hx : p.tables.exec = Jvm.exec) (hb : c.code = cc) (hts : ∀ w ∈ lw_all, w.before args s = true) (hown : s.vm.findClass RX2 = some m.cls) (hK : va_K (dC, dI) cl2 tys s) (hP : va_P (dC, dI) cl2 (wM cZ bd n al th) H) (hdg : decode cc pc = .ok (.getfield 7, 3)) (kk : W p l e R s m args below meth c H locs cells slots Q (F0 m (pc + 3) ls (.ref (bd 2) :: rest))) : W p l e R s m args below meth c H locs cells slots Q (F0 m pc ls (.ref (bd 0) :: rest)) :=
  va_get (D := (dC, dI)) (ci := 1) (v := .ref (bd 2)) (C := RX2) (T := TX2) (N := 3) hx hb hts in_X2 hown hK hP 0 rfl rfl 2 (by decide) (hts _ q159) (fun _ h9 => h9) rfl hdg kk
theorem lX2_th (hx : p.tables.exec = Jvm.exec) (hb : c.code = cc) (hK : va_K (dC, dI) cl2 (tyM cZ) s) (hP : va_P (dC, dI) cl2 (wM cZ bd n al th) H) {i : Int32} (j : Nat) (hi : i = nI j) (hj : j < 64) (hdg : decode cc pc = .ok (.baload, 1)) (kk : W p l e R s m args below meth c H locs cells slots Q (F0 m (pc + 1) ls (.int (th j) :: rest))) : W p l e R s m args below meth c H locs cells slots Q (F0 m pc ls (.int i :: .ref (bd 2) :: rest)) := by
  subst hi
  refine va_zald hx hb hK hP 1 0 rfl rfl (vp_in_nI hj (by decide)) hdg ?_
  rw [nI_clamp (Nat.lt_trans hj (by decide))]
  exact kk
theorem sX2_th (hx : p.tables.exec = Jvm.exec) (hb : c.code = cc) (hK : va_K (dC, dI) cl2 (tyM cZ) s) (hP : va_P (dC, dI) cl2 (wM cZ bd n al th) H) (hD : va_D A (wM cZ bd n al th)) (hS : va_S A H0 H locs) {i x : Int32} (j : Nat) (hi : i = nI j) (hj : j < 64) {y : Int32} (hy : vp_nar .boolean x = y) (hdg : decode cc pc = .ok (.bastore, 1)) (kk : ∀ (H1 : Heap) (locs1 : List Loc), va_P (dC, dI) cl2 (wM cZ bd n al (upd th j y)) H1 → va_D A (wM cZ bd n al (upd th j y)) → va_S A H0 H1 locs1 → W p l e R s m args below meth c H1 locs1 cells slots Q (F0 m (pc + 1) ls rest)) : W p l e R s m args below meth c H locs cells slots Q (F0 m pc ls (.int x :: .int i :: .ref (bd 2) :: rest)) := by
  subst hi
  subst hy
  refine va_zast hx hb hK hP hD hS 1 0 rfl rfl (vp_in_nI hj (by decide)) hdg ?_
  rw [nI_clamp (Nat.lt_trans hj (by decide))]
  exact kk
theorem gX2_n (hx : p.tables.exec = Jvm.exec) (hb : c.code = cc) (hts : ∀ w ∈ lw_all, w.before args s = true) (hown : s.vm.findClass RX2 = some m.cls) (hK : va_K (dC, dI) cl2 tys s) (hP : va_P (dC, dI) cl2 (wM cZ bd n al th) H) (hdg : decode cc pc = .ok (.getfield 13, 3)) (kk : W p l e R s m args below meth c H locs cells slots Q (F0 m (pc + 3) ls (.int n :: rest))) : W p l e R s m args below meth c H locs cells slots Q (F0 m pc ls (.ref (bd 0) :: rest)) :=
  va_get (D := (dC, dI)) (ci := 1) (v := .int n) (C := RX2) (T := TX2) (N := 3) hx hb hts in_X2 hown hK hP 0 rfl rfl 0 (by decide) (hts _ q157) (fun _ h9 => h9) rfl hdg kk
theorem pX2_n (hx : p.tables.exec = Jvm.exec) (hb : c.code = cc) (hts : ∀ w ∈ lw_all, w.before args s = true) (hown : s.vm.findClass RX2 = some m.cls) (hK : va_K (dC, dI) cl2 tys s) (hP : va_P (dC, dI) cl2 (wM cZ bd n al th) H) (hD : va_D A (wM cZ bd n al th)) (hS : va_S A H0 H locs) {v : Int32} (hdg : decode cc pc = .ok (.putfield 13, 3)) (kk : ∀ (H1 : Heap) (locs1 : List Loc), va_P (dC, dI) cl2 (wM cZ bd v al th) H1 → va_D A (wM cZ bd v al th) → va_S A H0 H1 locs1 → W p l e R s m args below meth c H1 locs1 cells slots Q (F0 m (pc + 3) ls rest)) : W p l e R s m args below meth c H locs cells slots Q (F0 m pc ls (.int v :: .ref (bd 0) :: rest)) :=
  va_put (D := (dC, dI)) (ci := 1) (v := .int v) (ty := .int) (C := RX2) (T := TX2) (N := 3) hx hb hts in_X2 tyX2 tyX2_ok nmX2 hown hK hP hD hS 0 rfl rfl 0 (by decide) (hts _ q157) (fun _ h9 => h9) rfl (by decide +kernel) rfl rfl (Nat.le_of_ble_eq_true rfl) hdg kk
theorem gX2_al (hx : p.tables.exec = Jvm.exec) (hb : c.code = cc) (hts : ∀ w ∈ lw_all, w.before args s = true) (hown : s.vm.findClass RX2 = some m.cls) (hK : va_K (dC, dI) cl2 tys s) (hP : va_P (dC, dI) cl2 (wM cZ bd n al th) H) (hdg : decode cc pc = .ok (.getfield 17, 3)) (kk : W p l e R s m args below meth c H locs cells slots Q (F0 m (pc + 3) ls (.int al :: rest))) : W p l e R s m args below meth c H locs cells slots Q (F0 m pc ls (.ref (bd 0) :: rest)) :=
  va_get (D := (dC, dI)) (ci := 1) (v := .int al) (C := RX2) (T := TX2) (N := 3) hx hb hts in_X2 hown hK hP 0 rfl rfl 1 (by decide) (hts _ q158) (fun _ h9 => h9) rfl hdg kk
theorem pX2_al (hx : p.tables.exec = Jvm.exec) (hb : c.code = cc) (hts : ∀ w ∈ lw_all, w.before args s = true) (hown : s.vm.findClass RX2 = some m.cls) (hK : va_K (dC, dI) cl2 tys s) (hP : va_P (dC, dI) cl2 (wM cZ bd n al th) H) (hD : va_D A (wM cZ bd n al th)) (hS : va_S A H0 H locs) {v : Int32} (hdg : decode cc pc = .ok (.putfield 17, 3)) (kk : ∀ (H1 : Heap) (locs1 : List Loc), va_P (dC, dI) cl2 (wM cZ bd n v th) H1 → va_D A (wM cZ bd n v th) → va_S A H0 H1 locs1 → W p l e R s m args below meth c H1 locs1 cells slots Q (F0 m (pc + 3) ls rest)) : W p l e R s m args below meth c H locs cells slots Q (F0 m pc ls (.int v :: .ref (bd 0) :: rest)) :=
  va_put (D := (dC, dI)) (ci := 1) (v := .int v) (ty := .int) (C := RX2) (T := TX2) (N := 3) hx hb hts in_X2 tyX2 tyX2_ok nmX2 hown hK hP hD hS 0 rfl rfl 1 (by decide) (hts _ q158) (fun _ h9 => h9) rfl (by decide +kernel) rfl rfl (Nat.le_of_ble_eq_true rfl) hdg kk
end GX2
end GR
theorem cw_X1_isArgument {R rm : Room} {s : State} {args : Array Value} (hts : ∀ w ∈ lw_all, w.before args s = true) (hR : rm.frames + 1 ≤ R.frames ∧ 8 + (2 + 11) + rm.locals ≤ R.locals) (hc : rm.cells = 0 := by rfl) (hs : rm.slots = 0 := by rfl) : CallW R s args RX1 RX1 45 yX1_isArgument cX1_isArgument 2 (some .boolean) (ws_ yX1_isArgument cX1_isArgument 2 (some .boolean)) rm 0 0 1 := cwV 1 hts (lw_V q84 q86 qs0 q19 q87) rfl hc hs (by decide +kernel) hR
theorem cw_X1_search {R rm : Room} {s : State} {args : Array Value} (hts : ∀ w ∈ lw_all, w.before args s = true) (hR : rm.frames + 1 ≤ R.frames ∧ 8 + (4 + 11) + rm.locals ≤ R.locals) (hc : rm.cells = 0 := by rfl) (hs : rm.slots = 0 := by rfl) : CallW R s args RX1 RX1 62 yX1_search cX1_search 4 none (ws_ yX1_search cX1_search 4 none) rm 0 0 0 := cwV 0 hts (lw_V q104 q106 qs1 q19 q107) rfl hc hs (by decide +kernel) hR
theorem cw_X1_propagate {R rm : Room} {s : State} {args : Array Value} (hts : ∀ w ∈ lw_all, w.before args s = true) (hR : rm.frames + 1 ≤ R.frames ∧ 8 + (3 + 11) + rm.locals ≤ R.locals) (hc : rm.cells = 0 := by rfl) (hs : rm.slots = 0 := by rfl) : CallW R s args RX1 RX1 68 yX1_propagate cX1_propagate 3 (some .boolean) (ws_ yX1_propagate cX1_propagate 3 (some .boolean)) rm 0 0 0 := cwV 0 hts (lw_V q108 q110 qs2 q19 q111) rfl hc hs (by decide +kernel) hR
theorem cw_X1_branch {R rm : Room} {s : State} {args : Array Value} (hts : ∀ w ∈ lw_all, w.before args s = true) (hR : rm.frames + 1 ≤ R.frames ∧ 8 + (5 + 11) + rm.locals ≤ R.locals) (hc : rm.cells = 0 := by rfl) (hs : rm.slots = 0 := by rfl) : CallW R s args RX1 RX1 72 yX1_branch cX1_branch 5 (some .int) (ws_ yX1_branch cX1_branch 5 (some .int)) rm 0 0 1 := cwV 1 hts (lw_V q124 q126 qs6 q19 q127) rfl hc hs (by decide +kernel) hR
theorem cw_X1_label {R rm : Room} {s : State} {args : Array Value} (hts : ∀ w ∈ lw_all, w.before args s = true) (hR : rm.frames + 1 ≤ R.frames ∧ 8 + (3 + 11) + rm.locals ≤ R.locals) (hc : rm.cells = 0 := by rfl) (hs : rm.slots = 0 := by rfl) : CallW R s args RX1 RX1 76 yX1_label cX1_label 3 none (ws_ yX1_label cX1_label 3 none) rm 0 0 2 := cwV 2 hts (lw_V q116 q118 qs4 q19 q119) rfl hc hs (by decide +kernel) hR
theorem cw_X1_compare {R rm : Room} {s : State} {args : Array Value} (hts : ∀ w ∈ lw_all, w.before args s = true) (hR : rm.frames + 1 ≤ R.frames ∧ 8 + (5 + 11) + rm.locals ≤ R.locals) (hc : rm.cells = 0 := by rfl) (hs : rm.slots = 0 := by rfl) : CallW R s args RX1 RX1 80 yX1_compare cX1_compare 5 none (ws_ yX1_compare cX1_compare 5 none) rm 0 0 0 := cwV 0 hts (lw_V q128 q130 qs7 q19 q131) rfl hc hs (by decide +kernel) hR
theorem cw_X1_conclude {R rm : Room} {s : State} {args : Array Value} (hts : ∀ w ∈ lw_all, w.before args s = true) (hR : rm.frames + 1 ≤ R.frames ∧ 8 + (5 + 11) + rm.locals ≤ R.locals) (hc : rm.cells = 0 := by rfl) (hs : rm.slots = 0 := by rfl) : CallW R s args RX1 RX1 83 yX1_conclude cX1_conclude 5 (some .boolean) (ws_ yX1_conclude cX1_conclude 5 (some .boolean)) rm 0 0 1 := cwV 1 hts (lw_V q112 q114 qs3 q19 q115) rfl hc hs (by decide +kernel) hR
theorem cw_X1_support {R rm : Room} {s : State} {args : Array Value} (hts : ∀ w ∈ lw_all, w.before args s = true) (hR : rm.frames + 1 ≤ R.frames ∧ 8 + (7 + 11) + rm.locals ≤ R.locals) (hc : rm.cells = 0 := by rfl) (hs : rm.slots = 0 := by rfl) : CallW R s args RX1 RX1 86 yX1_support cX1_support 7 (some .boolean) (ws_ yX1_support cX1_support 7 (some .boolean)) rm 0 0 1 := cwV 1 hts (lw_V q120 q122 qs5 q19 q123) rfl hc hs (by decide +kernel) hR
theorem cw_X2_isArgument {R rm : Room} {s : State} {args : Array Value} (hts : ∀ w ∈ lw_all, w.before args s = true) (hR : rm.frames + 1 ≤ R.frames ∧ 8 + (2 + 11) + rm.locals ≤ R.locals) (hc : rm.cells = 0 := by rfl) (hs : rm.slots = 0 := by rfl) : CallW R s args RX2 RX2 20 yX2_isArgument cX2_isArgument 2 (some .boolean) (ws_ yX2_isArgument cX2_isArgument 2 (some .boolean)) rm 0 0 1 := cwV 1 hts (lw_V q172 q174 qs8 q20 q175) rfl hc hs (by decide +kernel) hR
theorem cw_X2_in {R rm : Room} {s : State} {args : Array Value} (hts : ∀ w ∈ lw_all, w.before args s = true) (hR : rm.frames + 1 ≤ R.frames ∧ 8 + (3 + 11) + rm.locals ≤ R.locals) (hc : rm.cells = 0 := by rfl) (hs : rm.slots = 0 := by rfl) : CallW R s args RX2 RX2 24 yX2_in cX2_in 3 (some .boolean) (ws_ yX2_in cX2_in 3 (some .boolean)) rm 0 0 2 := cwV 2 hts (lw_V q196 q198 qs11 q20 q199) rfl hc hs (by decide +kernel) hR
theorem cw_X2_attacked {R rm : Room} {s : State} {args : Array Value} (hts : ∀ w ∈ lw_all, w.before args s = true) (hR : rm.frames + 1 ≤ R.frames ∧ 8 + (4 + 11) + rm.locals ≤ R.locals) (hc : rm.cells = 0 := by rfl) (hs : rm.slots = 0 := by rfl) : CallW R s args RX2 RX2 28 yX2_attacked cX2_attacked 4 (some .int) (ws_ yX2_attacked cX2_attacked 4 (some .int)) rm 0 0 1 := cwV 1 hts (lw_V q192 q194 qs10 q20 q195) rfl hc hs (by decide +kernel) hR
theorem cw_X2_conflictFree {R rm : Room} {s : State} {args : Array Value} (hts : ∀ w ∈ lw_all, w.before args s = true) (hR : rm.frames + 1 ≤ R.frames ∧ 8 + (2 + 11) + rm.locals ≤ R.locals) (hc : rm.cells = 0 := by rfl) (hs : rm.slots = 0 := by rfl) : CallW R s args RX2 RX2 32 yX2_conflictFree cX2_conflictFree 2 (some .boolean) (ws_ yX2_conflictFree cX2_conflictFree 2 (some .boolean)) rm 0 0 1 := cwV 1 hts (lw_V q212 q214 qs14 q20 q215) rfl hc hs (by decide +kernel) hR
theorem cw_X2_defended {R rm : Room} {s : State} {args : Array Value} (hts : ∀ w ∈ lw_all, w.before args s = true) (hR : rm.frames + 1 ≤ R.frames ∧ 8 + (5 + 11) + rm.locals ≤ R.locals) (hc : rm.cells = 0 := by rfl) (hs : rm.slots = 0 := by rfl) : CallW R s args RX2 RX2 35 yX2_defended cX2_defended 5 (some .int) (ws_ yX2_defended cX2_defended 5 (some .int)) rm 0 0 1 := cwV 1 hts (lw_V q188 q190 qs9 q20 q191) rfl hc hs (by decide +kernel) hR
theorem cw_X2_admissible {R rm : Room} {s : State} {args : Array Value} (hts : ∀ w ∈ lw_all, w.before args s = true) (hR : rm.frames + 1 ≤ R.frames ∧ 8 + (2 + 11) + rm.locals ≤ R.locals) (hc : rm.cells = 0 := by rfl) (hs : rm.slots = 0 := by rfl) : CallW R s args RX2 RX2 38 yX2_admissible cX2_admissible 2 (some .boolean) (ws_ yX2_admissible cX2_admissible 2 (some .boolean)) rm 0 0 1 := cwV 1 hts (lw_V q216 q218 qs15 q20 q219) rfl hc hs (by decide +kernel) hR
theorem cw_X2_maximal {R rm : Room} {s : State} {args : Array Value} (hts : ∀ w ∈ lw_all, w.before args s = true) (hR : rm.frames + 1 ≤ R.frames ∧ 8 + (3 + 11) + rm.locals ≤ R.locals) (hc : rm.cells = 0 := by rfl) (hs : rm.slots = 0 := by rfl) : CallW R s args RX2 RX2 41 yX2_maximal cX2_maximal 3 (some .boolean) (ws_ yX2_maximal cX2_maximal 3 (some .boolean)) rm 0 0 1 := cwV 1 hts (lw_V q220 q222 qs16 q20 q223) rfl hc hs (by decide +kernel) hR
theorem cw_X2_widest {R rm : Room} {s : State} {args : Array Value} (hts : ∀ w ∈ lw_all, w.before args s = true) (hR : rm.frames + 1 ≤ R.frames ∧ 8 + (5 + 11) + rm.locals ≤ R.locals) (hc : rm.cells = 0 := by rfl) (hs : rm.slots = 0 := by rfl) : CallW R s args RX2 RX2 44 yX2_widest cX2_widest 5 (some .boolean) (ws_ yX2_widest cX2_widest 5 (some .boolean)) rm 0 0 1 := cwV 1 hts (lw_V q224 q226 qs17 q20 q227) rfl hc hs (by decide +kernel) hR
theorem cw_X2_isKind {R rm : Room} {s : State} {args : Array Value} (hts : ∀ w ∈ lw_all, w.before args s = true) (hR : rm.frames + 1 ≤ R.frames ∧ 8 + (2 + 11) + rm.locals ≤ R.locals) (hc : rm.cells = 0 := by rfl) (hs : rm.slots = 0 := by rfl) : CallW R s args RX2 RX2 47 yX2_isKind cX2_isKind 2 (some .boolean) (ws_ yX2_isKind cX2_isKind 2 (some .boolean)) rm 0 0 1 := cwV 1 hts (lw_V q204 q206 qs12 q20 q207) rfl hc hs (by decide +kernel) hR
theorem cw_X2_is {R rm : Room} {s : State} {args : Array Value} (hts : ∀ w ∈ lw_all, w.before args s = true) (hR : rm.frames + 1 ≤ R.frames ∧ 8 + (3 + 11) + rm.locals ≤ R.locals) (hc : rm.cells = 0 := by rfl) (hs : rm.slots = 0 := by rfl) : CallW R s args RX2 RX2 50 yX2_is cX2_is 3 (some .boolean) (ws_ yX2_is cX2_is 3 (some .boolean)) rm 0 0 2 := cwV 2 hts (lw_V q208 q210 qs13 q20 q211) rfl hc hs (by decide +kernel) hR
end
section
/-! the words of the contracts: pure, no program in sight -/
noncomputable def cIf {α : Type} (P : Prop) (a b : α) : α := @ite α P (Classical.propDecidable P) a b
theorem cIf_t {α : Type} {P : Prop} {a b : α} (h : P) : cIf P a b = a := by unfold cIf; exact if_pos h
theorem cIf_f {α : Type} {P : Prop} {a b : α} (h : ¬ P) : cIf P a b = b := by unfold cIf; exact if_neg h
/-- a boolean answer -/
noncomputable def bI (P : Prop) : Int32 := cIf P 1 0
theorem bI_t {P : Prop} (h : P) : bI P = 1 := cIf_t h
theorem bI_f {P : Prop} (h : ¬ P) : bI P = 0 := cIf_f h
theorem bI_z {P : Prop} {r : Int32} (e : r = bI P) (h : r = 0) : ¬ P := fun hp => by rw [e, bI_t hp] at h; exact absurd h (by decide)
theorem bI_n {P : Prop} {r : Int32} (e : r = bI P) (h : ¬ r = 0) : P := Classical.byContradiction fun hp => h (by rw [e, bI_f hp])
theorem bI_nar (P : Prop) : narrow .boolean (.int (bI P)) = .int (bI P) := by
  rcases Classical.em P with h | h
  · rw [bI_t h]; rfl
  · rw [bI_f h]; rfl
theorem bI_iff {P Q : Prop} (h : P ↔ Q) : bI P = bI Q := by rw [propext h]
theorem nar_of {P : Prop} {r : Int32} (e : r = bI P) : narrow .boolean (.int r) = .int r := by rw [e]; exact bI_nar P
/-- bounds of counters -/
theorem kge {k N : Nat} {M : Int32} (hM : M = nI N) (hN : N < 2 ^ 31) (hk : k ≤ N) (h : M ≤ nI k) : k = N := by
  subst hM
  rcases Nat.lt_or_ge k N with q | q
  · exact absurd h (nI_ge q hN)
  · omega
theorem klt {k N : Nat} {M : Int32} (hM : M = nI N) (hk : k < 2 ^ 31) (h : ¬ M ≤ nI k) : k < N := by
  subst hM
  rcases Nat.lt_or_ge k N with q | q
  · exact q
  · exact absurd (nI_le q hk) h
theorem kgt {k N : Nat} (hN : N < 2 ^ 31) (hk : k ≤ N + 1) (h : nI N < nI k) : k = N + 1 := by
  rcases Nat.lt_or_ge N k with q | q
  · omega
  · exact absurd h (nI_nlt q hN)
theorem kle {k N : Nat} (hk : k < 2 ^ 31) (h : ¬ nI N < nI k) : k ≤ N := by
  rcases Nat.lt_or_ge N k with q | q
  · exact absurd (nI_lt q hk) h
  · exact q
/-! ===== the model's words ===== -/
def inP (x a : Int32) : Prop := ((x >>> (a &&& 31)) &&& 1) = 1
def argP (n a : Int32) : Prop := ¬ a < 0 ∧ ¬ n ≤ a
def kindP (k : Int32) : Prop := ¬ k < 0 ∧ ¬ 3 < k
noncomputable def m_att (th : Nat → Int32) (st : Int32) : Nat → Int32
  | 0 => 0
  | k + 1 => cIf (¬ th k = 0 ∧ inP st (nI k >>> ((3 : Int32) &&& 31))) (m_att th st k ||| ((1 : Int32) <<< ((nI k &&& 7) &&& 31))) (m_att th st k)
noncomputable def m_at (th : Nat → Int32) (st : Int32) : Int32 := m_att th st 64
noncomputable def m_dfk (th : Nat → Int32) (al hit : Int32) : Nat → Int32
  | 0 => al
  | k + 1 => cIf (¬ th k = 0 ∧ ¬ inP hit (nI k >>> ((3 : Int32) &&& 31))) (m_dfk th al hit k &&& (((1 : Int32) <<< ((nI k &&& 7) &&& 31)) ^^^ (-1))) (m_dfk th al hit k)
noncomputable def m_df (th : Nat → Int32) (al st : Int32) : Int32 := m_dfk th al (m_at th st) 64
def m_cf (th : Nat → Int32) (st : Int32) : Prop := (m_at th st &&& st) = 0
def m_ad (th : Nat → Int32) (al st : Int32) : Prop := m_cf th st ∧ (st &&& (m_df th al st ^^^ (-1))) = 0
def m_hm (th : Nat → Int32) (al st : Int32) (j : Nat) : Prop := ¬ nI j = st ∧ (st &&& (nI j ^^^ (-1))) = 0 ∧ m_ad th al (nI j)
def m_mx (th : Nat → Int32) (al st : Int32) (N : Nat) : Prop := ∀ j, j < N + 1 → ¬ m_hm th al st j
noncomputable def m_rg (th : Nat → Int32) (st : Int32) : Int32 := st ||| m_at th st
def m_hw (th : Nat → Int32) (al st : Int32) (j : Nat) : Prop := ¬ m_rg th (nI j) = m_rg th st ∧ (m_rg th st &&& (m_rg th (nI j) ^^^ (-1))) = 0 ∧ m_ad th al (nI j)
def m_wd (th : Nat → Int32) (al st : Int32) (N : Nat) : Prop := ∀ j, j < N + 1 → ¬ m_hw th al st j
def m_is (th : Nat → Int32) (N : Nat) (kind st : Int32) : Prop :=
  if kind = 2 then m_cf th st ∧ m_rg th st = nI N
  else m_ad th (nI N) st ∧ (if kind = 0 then m_df th (nI N) st = st else if kind = 1 then m_mx th (nI N) st N else m_wd th (nI N) st N)
/-- how many of the first k hold -/
noncomputable def g_cnt (P : Nat → Prop) : Nat → Nat
  | 0 => 0
  | k + 1 => cIf (P k) (g_cnt P k + 1) (g_cnt P k)
noncomputable def g_or (P : Nat → Prop) : Nat → Int32
  | 0 => 0
  | k + 1 => cIf (P k) (g_or P k ||| nI k) (g_or P k)
noncomputable def g_an (P : Nat → Prop) (a : Int32) : Nat → Int32
  | 0 => a
  | k + 1 => cIf (P k) (g_an P a k &&& nI k) (g_an P a k)
/-- r is the set that has just k of its kind ahead of it, or -2 -/
def g_ext (P : Nat → Prop) (M : Nat) (k r : Int32) : Prop := (∃ j, j < M ∧ P j ∧ nI (g_cnt P j) = k ∧ r = nI j) ∨ (r = -2 ∧ ∀ j, j < M → P j → ¬ nI (g_cnt P j) = k)
def m_pre (th : Nat → Int32) (al st : Int32) : Prop := (m_df th al st &&& (st ^^^ (-1))) = 0
def m_lst (th : Nat → Int32) (N : Nat) (st : Int32) : Prop := m_pre th (nI N) st ∧ ∀ j, j < N + 1 → m_pre th (nI N) (nI j) → (st &&& (nI j ^^^ (-1))) = 0
def m_grd (th : Nat → Int32) (N : Nat) (r : Int32) : Prop := (∃ j, j < N + 1 ∧ m_lst th N (nI j) ∧ r = nI j) ∨ (r = nI N ∧ ∀ j, j < N + 1 → ¬ m_lst th N (nI j))
theorem g_cnt_le (P : Nat → Prop) : ∀ k, g_cnt P k ≤ k
  | 0 => Nat.le_refl 0
  | k + 1 => by
    have h := g_cnt_le P k
    rcases Classical.em (P k) with q | q
    · rw [g_cnt, cIf_t q]; omega
    · rw [g_cnt, cIf_f q]; omega
/-! ===== the labeller's words ===== -/
abbrev Lb : Type := Int32 × Int32 × Int32 × Int32
def b1 (a : Int32) : Int32 := (1 : Int32) <<< (a &&& 31)
def x_opn (ev ac re un : Int32) : Int32 := ev &&& (((ac ||| re) ||| un) ^^^ (-1))
def x_lab (a how ac re un : Int32) : Lb := if how = 0 then (ac ||| b1 a, re, un, 1) else if how = 1 then (ac, re ||| b1 a, un, 1) else (ac, re, un ||| b1 a, 1)
def x_con (ev by_ a ac re un ch : Int32) : Int32 × Lb :=
  if (by_ &&& ac) = 0 then
    if (by_ &&& (re ^^^ (-1))) = 0 then
      if ((re ||| un) &&& b1 a) = 0 then
        if (x_opn ev ac re un &&& b1 a) = 0 then (1, (ac, re, un, ch)) else (1, x_lab a 0 ac re un)
      else (0, (ac, re, un, ch))
    else if (by_ &&& x_opn ev ac re un) = 0 then
      if (x_opn ev ac re un &&& b1 a) = 0 then (1, (ac, re, un, ch)) else (1, x_lab a 2 ac re un)
    else (1, (ac, re, un, ch))
  else if ((ac ||| un) &&& b1 a) = 0 then
    if (x_opn ev ac re un &&& b1 a) = 0 then (1, (ac, re, un, ch)) else (1, x_lab a 1 ac re un)
  else (0, (ac, re, un, ch))
/-- the lowest bit that is set, below 7; else 7 -/
def x_lw (o : Int32) : Nat → Nat
  | 0 => 7
  | f + 1 => if ((o >>> (nI (6 - f) &&& 31)) &&& 1) = 0 then x_lw o f else 6 - f
def x_sup2 (op how wanted ac re un ch : Int32) : Int32 × Lb :=
  if wanted = 0 then
    if op = 0 then (0, (ac, re, un, ch))
    else if (op &&& (op - 1)) = 0 then (1, x_lab (nI (x_lw op 7)) how ac re un)
    else (1, (ac, re, un, ch))
  else (1, (ac, re, un, ch))
def x_sup (by_ a ac re un ch : Int32) : Int32 × Lb :=
  if ((ac >>> (a &&& 31)) &&& 1) = 0 then
    if ((re >>> (a &&& 31)) &&& 1) = 0 then
      if ((un >>> (a &&& 31)) &&& 1) = 0 then (1, (ac, re, un, ch))
      else x_sup2 (x_opn by_ ac re un) 2 (by_ &&& un) ac re un ch
    else x_sup2 (x_opn by_ ac re un) 0 (by_ &&& ac) ac re un ch
  else if (by_ &&& (ac ||| un)) = 0 then
    if x_opn by_ ac re un = 0 then (1, (ac, re, un, ch)) else (1, (ac, re ||| x_opn by_ ac re un, un, 1))
  else (0, (ac, re, un, ch))
/-! ===== words and rows for the model's walks ===== -/
def mP (th : Nat → Int32) (N : Nat) (kind : Int32) : Nat → Prop := fun j => m_is th N kind (nI j)
theorem argP_of {n a : Int32} {ν : Nat} (hn : n = nI ν) (h : argP n a) : ∃ i, i < ν ∧ a = nI i := by
  obtain ⟨i, hi, rfl⟩ := nI_of h.1
  exact ⟨i, klt hn hi h.2, rfl⟩
theorem argP_in {n : Int32} {ν i : Nat} (hn : n = nI ν) (hν : ν < 2 ^ 31) (h : i < ν) : argP n (nI i) := by
  subst hn
  exact ⟨nI_pos (by omega), nI_ge h hν⟩
theorem ix8 {a b : Int32} {i j : Nat} (ei : a = nI i) (ej : b = nI j) : (8 * a) + b = nI (8 * i + j) := by
  rw [ei, ej, show (8 : Int32) = nI 8 from by decide, pk_mul, nI_add]
def m_atk (ν : Nat) (n : Int32) (th : Nat → Int32) (a b r : Int32) (u : Nat → Int32) : Prop := (¬ (argP n a ∧ argP n b) ∧ r = -1 ∧ u = th) ∨ ∃ i j, i < ν ∧ j < ν ∧ a = nI i ∧ b = nI j ∧ ((¬ th (8 * i + j) = 0 ∧ r = 0 ∧ u = th) ∨ (th (8 * i + j) = 0 ∧ r = 1 ∧ u = upd th (8 * i + j) 1))
def m_wdr (ν : Nat) (n : Int32) (th : Nat → Int32) (a b r : Int32) (u : Nat → Int32) : Prop := (¬ (argP n a ∧ argP n b) ∧ r = -1 ∧ u = th) ∨ ∃ i j, i < ν ∧ j < ν ∧ a = nI i ∧ b = nI j ∧ ((th (8 * i + j) = 0 ∧ r = 0 ∧ u = th) ∨ (¬ th (8 * i + j) = 0 ∧ r = 1 ∧ u = upd th (8 * i + j) 0))
def m_ats (ν : Nat) (n : Int32) (th : Nat → Int32) (a b r : Int32) : Prop := (¬ (argP n a ∧ argP n b) ∧ r = 0) ∨ ∃ i j, i < ν ∧ j < ν ∧ a = nI i ∧ b = nI j ∧ r = bI (¬ th (8 * i + j) = 0)
theorem clr_1 {t : Nat → Int32} {k : Nat} (h : ∀ j, j < k → t j = 0) : ∀ j, j < k + 1 → upd t k 0 j = 0 := by
  intro j hj
  rcases Nat.lt_or_ge j k with q | q
  · rw [pk_un (by omega)]; exact h j q
  · rw [show j = k by omega, pk_us]
theorem clr_2 {t th : Nat → Int32} {k : Nat} {x : Int32} (h : ∀ j, k ≤ j → t j = th j) : ∀ j, k + 1 ≤ j → upd t k x j = th j := by
  intro j hj
  rw [pk_un (by omega)]; exact h j (by omega)
end
section
abbrev rm_X2_isArgument : Room := { frames := 0, cells := 0, slots := 0, locals := 0 }
set_option maxHeartbeats 4000000 in
set_option maxRecDepth 100000 in
theorem metX2_isArgument (l : Launch) (dC : Nat → ClassId) (dI : Nat → Nat → Nat) (cZ : ClassId) (bd : Nat → Nat) (sz : Nat) (n : Int32) (al : Int32) (th : Nat → Int32) (a : Int32)  : Met l yX2_isArgument (ws_ yX2_isArgument cX2_isArgument 2 (some .boolean)) rm_X2_isArgument (gP (dC, dI) (tyM cZ) (wM cZ bd n al th) sz [.ref (bd 0), .int a]) (gQi (dC, dI) (fun (r : Int32) (_ : Unit) => r = bI (argP n a)) (wM cZ bd n al th) (fun _ => (wM cZ bd n al th)) sz) 0 0 (va_A (wM cZ bd n al th) sz) := by
  refine gstart (own := RX2) (by decide) rfl (Nat.le_of_ble_eq_true rfl) ?_
  intro p e s m below meth c hx hb hr hlocks hml hown hts hsz hP hK hD hA hnm ls hl
  have hS : va_S (va_A (wM cZ bd n al th) sz) s.heap s.heap [] := va_S.rf
  have hl : lv_has ls 2 [(0, .ref (bd 0)), (1, .int a)] := hl
  refine lv_iload_n hx hb dX2_isArgument_0 rfl (lv_at hl 1 rfl) ?_
  refine lv_if_lt (tgt := 16) hx hb dX2_isArgument_1 (by decide) (fun c1 => ?_) (fun c1 => ?_)
  · refine lv_iconst (v := 0) hx hb dX2_isArgument_16 (by decide) ?_
    exact gretz hx hb hr hlocks rfl () (by exact (bI_f (fun h => h.1 c1)).symm) hP hD hS dX2_isArgument_17
  · refine lv_iload_n hx hb dX2_isArgument_4 rfl (lv_at hl 1 rfl) ?_
    refine lv_aload_n hx hb dX2_isArgument_5 rfl (lv_at hl 0 rfl) ?_
    refine gX2_n hx hb hts hown hK hP dX2_isArgument_6 ?_
    refine lv_icmp_ge (tgt := 16) hx hb dX2_isArgument_9 (by decide) (fun c2 => ?_) (fun c2 => ?_)
    · refine lv_iconst (v := 0) hx hb dX2_isArgument_16 (by decide) ?_
      exact gretz hx hb hr hlocks rfl () (by exact (bI_f (fun h => h.2 c2)).symm) hP hD hS dX2_isArgument_17
    · refine lv_iconst (v := 1) hx hb dX2_isArgument_12 (by decide) ?_
      refine lv_goto (tgt := 17) hx hb dX2_isArgument_13 (by decide) ?_
      exact gretz hx hb hr hlocks rfl () (by exact (bI_t ⟨c1, c2⟩).symm) hP hD hS dX2_isArgument_17

abbrev rm_X2_in : Room := { frames := 0, cells := 0, slots := 0, locals := 0 }
set_option maxHeartbeats 4000000 in
set_option maxRecDepth 100000 in
theorem metX2_in (l : Launch) (dC : Nat → ClassId) (dI : Nat → Nat → Nat) (cZ : ClassId) (bd : Nat → Nat) (sz : Nat) (n : Int32) (al : Int32) (th : Nat → Int32) (st : Int32) (a : Int32)  : Met l yX2_in (ws_ yX2_in cX2_in 3 (some .boolean)) rm_X2_in (gP (dC, dI) (tyM cZ) (wM cZ bd n al th) sz [.ref (bd 0), .int st, .int a]) (gQi (dC, dI) (fun (r : Int32) (_ : Unit) => r = bI (inP st a)) (wM cZ bd n al th) (fun _ => (wM cZ bd n al th)) sz) 0 0 (va_A (wM cZ bd n al th) sz) := by
  refine gstart (own := RX2) (by decide) rfl (Nat.le_of_ble_eq_true rfl) ?_
  intro p e s m below meth c hx hb hr hlocks hml hown hts hsz hP hK hD hA hnm ls hl
  have hS : va_S (va_A (wM cZ bd n al th) sz) s.heap s.heap [] := va_S.rf
  have hl : lv_has ls 3 [(0, .ref (bd 0)), (1, .int st), (2, .int a)] := hl
  refine lv_iload_n hx hb dX2_in_0 rfl (lv_at hl 1 rfl) ?_
  refine lv_iload_n hx hb dX2_in_1 rfl (lv_at hl 2 rfl) ?_
  refine lv_ishr hx hb dX2_in_2 ?_
  refine lv_iconst (v := 1) hx hb dX2_in_3 (by decide) ?_
  refine lv_iand hx hb dX2_in_4 ?_
  refine lv_iconst (v := 1) hx hb dX2_in_5 (by decide) ?_
  refine lv_icmp_ne (tgt := 13) hx hb dX2_in_6 (by decide) (fun c1 => ?_) (fun c1 => ?_)
  · refine lv_iconst (v := 0) hx hb dX2_in_13 (by decide) ?_
    exact gretz hx hb hr hlocks rfl () (by exact (bI_f c1).symm) hP hD hS dX2_in_14
  · refine lv_iconst (v := 1) hx hb dX2_in_9 (by decide) ?_
    refine lv_goto (tgt := 14) hx hb dX2_in_10 (by decide) ?_
    exact gretz hx hb hr hlocks rfl () (by exact (bI_t c1).symm) hP hD hS dX2_in_14

abbrev rm_X2_isKind : Room := { frames := 0, cells := 0, slots := 0, locals := 0 }
set_option maxHeartbeats 4000000 in
set_option maxRecDepth 100000 in
theorem metX2_isKind (l : Launch) (dC : Nat → ClassId) (dI : Nat → Nat → Nat) (cZ : ClassId) (bd : Nat → Nat) (sz : Nat) (n : Int32) (al : Int32) (th : Nat → Int32) (kind : Int32)  : Met l yX2_isKind (ws_ yX2_isKind cX2_isKind 2 (some .boolean)) rm_X2_isKind (gP (dC, dI) (tyM cZ) (wM cZ bd n al th) sz [.ref (bd 0), .int kind]) (gQi (dC, dI) (fun (r : Int32) (_ : Unit) => r = bI (kindP kind)) (wM cZ bd n al th) (fun _ => (wM cZ bd n al th)) sz) 0 0 (va_A (wM cZ bd n al th) sz) := by
  refine gstart (own := RX2) (by decide) rfl (Nat.le_of_ble_eq_true rfl) ?_
  intro p e s m below meth c hx hb hr hlocks hml hown hts hsz hP hK hD hA hnm ls hl
  have hS : va_S (va_A (wM cZ bd n al th) sz) s.heap s.heap [] := va_S.rf
  have hl : lv_has ls 2 [(0, .ref (bd 0)), (1, .int kind)] := hl
  refine lv_iload_n hx hb dX2_isKind_0 rfl (lv_at hl 1 rfl) ?_
  refine lv_if_lt (tgt := 13) hx hb dX2_isKind_1 (by decide) (fun c1 => ?_) (fun c1 => ?_)
  · refine lv_iconst (v := 0) hx hb dX2_isKind_13 (by decide) ?_
    exact gretz hx hb hr hlocks rfl () (by exact (bI_f (fun h => h.1 c1)).symm) hP hD hS dX2_isKind_14
  · refine lv_iload_n hx hb dX2_isKind_4 rfl (lv_at hl 1 rfl) ?_
    refine lv_iconst (v := 3) hx hb dX2_isKind_5 (by decide) ?_
    refine lv_icmp_gt (tgt := 13) hx hb dX2_isKind_6 (by decide) (fun c2 => ?_) (fun c2 => ?_)
    · refine lv_iconst (v := 0) hx hb dX2_isKind_13 (by decide) ?_
      exact gretz hx hb hr hlocks rfl () (by exact (bI_f (fun h => h.2 c2)).symm) hP hD hS dX2_isKind_14
    · refine lv_iconst (v := 1) hx hb dX2_isKind_9 (by decide) ?_
      refine lv_goto (tgt := 14) hx hb dX2_isKind_10 (by decide) ?_
      exact gretz hx hb hr hlocks rfl () (by exact (bI_t ⟨c1, c2⟩).symm) hP hD hS dX2_isKind_14

abbrev rm_X2_attacked : Room := { frames := 1, cells := 0, slots := 0, locals := 22 }
set_option maxHeartbeats 4000000 in
set_option maxRecDepth 100000 in
theorem metX2_attacked (l : Launch) (dC : Nat → ClassId) (dI : Nat → Nat → Nat) (cZ : ClassId) (bd : Nat → Nat) (sz : Nat) (n : Int32) (al : Int32) (th : Nat → Int32) (st : Int32)  : Met l yX2_attacked (ws_ yX2_attacked cX2_attacked 4 (some .int)) rm_X2_attacked (gP (dC, dI) (tyM cZ) (wM cZ bd n al th) sz [.ref (bd 0), .int st]) (gQi (dC, dI) (fun (r : Int32) (_ : Unit) => r = m_at th st) (wM cZ bd n al th) (fun _ => (wM cZ bd n al th)) sz) 0 0 (va_A (wM cZ bd n al th) sz) := by
  refine gstart (own := RX2) (by decide) rfl (Nat.le_of_ble_eq_true rfl) ?_
  intro p e s m below meth c hx hb hr hlocks hml hown hts hsz hP hK hD hA hnm ls hl
  have hS : va_S (va_A (wM cZ bd n al th) sz) s.heap s.heap [] := va_S.rf
  have hl : lv_has ls 4 [(0, .ref (bd 0)), (1, .int st)] := hl
  refine lv_iconst (v := 0) hx hb dX2_attacked_0 (by decide) ?_
  refine lv_istore_n (lv' := [(2, .int 0), (0, .ref (bd 0)), (1, .int st)]) hx hb dX2_attacked_1 rfl hl (by decide) rfl (fun ls hl => ?_)
  refine lv_iconst (v := 0) hx hb dX2_attacked_2 (by decide) ?_
  refine lv_istore_n (lv' := [(3, .int 0), (2, .int 0), (0, .ref (bd 0)), (1, .int st)]) hx hb dX2_attacked_3 rfl hl (by decide) rfl (fun ls hl => ?_)
  have loop4 : ∀ (fl : Nat) (k : Nat) (x2 : Int32), k ≤ 64 → 64 < k + fl → x2 = m_att th st k → ∀ (H : Heap) (locs : List Loc), va_P (dC, dI) cl2 (wM cZ bd n al th) H → va_D (va_A (wM cZ bd n al th) sz) (wM cZ bd n al th) → va_S (va_A (wM cZ bd n al th) sz) s.heap H locs → ∀ (ls : Array Slot), lv_has ls 4 [(0, .ref (bd 0)), (1, .int st), (2, .int x2), (3, .int (nI k))] → W p l e rm_X2_attacked s m ([.ref (bd 0), .int st] : List Value).toArray below meth c H locs 0 0 (MQ below (gQi (dC, dI) (fun (r : Int32) (_ : Unit) => r = m_at th st) (wM cZ bd n al th) (fun _ => (wM cZ bd n al th)) sz) ([.ref (bd 0), .int st] : List Value).toArray s 0 0 (va_A (wM cZ bd n al th) sz)) (F0 m 4 ls []) := by
    intro fl
    induction fl with
    | zero =>
      intro k x2 hk hf e2
      exact absurd hf (by omega)
    | succ fl ih4 =>
      intro k x2 hk hf e2 H locs hP hD hS ls hl
      refine lv_iload_n hx hb dX2_attacked_4 rfl (lv_at hl 3 rfl) ?_
      refine lv_bipush (v := 64) hx hb dX2_attacked_5 (by decide) ?_
      refine lv_icmp_ge (tgt := 45) hx hb dX2_attacked_7 (by decide) (fun c1 => ?_) (fun c1 => ?_)
      · refine lv_iload_n hx hb dX2_attacked_45 rfl (lv_at hl 2 rfl) ?_
        exact greti hx hb hr hlocks () (by show x2 = _; rw [e2, kge (by decide : (64 : Int32) = nI 64) (by decide) hk c1]; rfl) hP hD hS dX2_attacked_46
      · have hlt : k < 64 := klt (by decide : (64 : Int32) = nI 64) (by omega) c1
        refine lv_aload_n hx hb dX2_attacked_10 rfl (lv_at hl 0 rfl) ?_
        refine gX2_th hx hb hts hown hK hP dX2_attacked_11 ?_
        refine lv_iload_n hx hb dX2_attacked_14 rfl (lv_at hl 3 rfl) ?_
        refine lX2_th hx hb hK hP k rfl hlt dX2_attacked_15 ?_
        refine lv_if_eq (tgt := 39) hx hb dX2_attacked_16 (by decide) (fun c2 => ?_) (fun c2 => ?_)
        · refine lv_iinc (v := (nI (k + 1))) (lv' := [(3, .int (nI (k + 1))), (0, .ref (bd 0)), (1, .int st), (2, .int x2)]) hx hb dX2_attacked_39 hl (k := 3) rfl (nI_1 k) (by decide) rfl (fun ls hl => ?_)
          refine lv_goto (tgt := 4) hx hb dX2_attacked_42 (by decide) ?_
          exact ih4 (k + 1) x2 (by omega) (by omega) (by rw [m_att, cIf_f (fun h => h.1 c2), e2]) H locs hP hD hS ls (lv_sub hl [1, 2, 3, 0] rfl)
        · refine lv_aload_n hx hb dX2_attacked_19 rfl (lv_at hl 0 rfl) ?_
          refine lv_iload_n hx hb dX2_attacked_20 rfl (lv_at hl 1 rfl) ?_
          refine lv_iload_n hx hb dX2_attacked_21 rfl (lv_at hl 3 rfl) ?_
          refine lv_iconst (v := 3) hx hb dX2_attacked_22 (by decide) ?_
          refine lv_ishr hx hb dX2_attacked_23 ?_
          refine gcalli (As := [.int st, .int ((nI k) >>> (3 &&& 31))]) (rest := []) ⟨hx, hb, hml, hown, hts⟩ (metX2_in l dC dI cZ bd H.size n al th st ((nI k) >>> (3 &&& 31))) (cw_X2_in hts ⟨Nat.le_of_ble_eq_true rfl, Nat.le_of_ble_eq_true rfl⟩) hK hP hD hS hA (ci := 1) (q0 := 0) rfl rfl hl.1 rfl (Nat.le_of_ble_eq_true rfl) dX2_attacked_24 ⟨Nat.le_of_ble_eq_true rfl, Nat.le_of_ble_eq_true rfl⟩ (fun r3 u H locs hw3 hP hD hS => ?_)
          refine lv_if_eq (tgt := 39) hx hb dX2_attacked_27 (by decide) (fun c4 => ?_) (fun c4 => ?_)
          · refine lv_iinc (v := (nI (k + 1))) (lv' := [(3, .int (nI (k + 1))), (0, .ref (bd 0)), (1, .int st), (2, .int x2)]) hx hb dX2_attacked_39 hl (k := 3) rfl (nI_1 k) (by decide) rfl (fun ls hl => ?_)
            refine lv_goto (tgt := 4) hx hb dX2_attacked_42 (by decide) ?_
            exact ih4 (k + 1) x2 (by omega) (by omega) (by rw [m_att, cIf_f (fun h => bI_z hw3 c4 h.2), e2]) H locs hP hD hS ls (lv_sub hl [1, 2, 3, 0] rfl)
          · refine lv_iload_n hx hb dX2_attacked_30 rfl (lv_at hl 2 rfl) ?_
            refine lv_iconst (v := 1) hx hb dX2_attacked_31 (by decide) ?_
            refine lv_iload_n hx hb dX2_attacked_32 rfl (lv_at hl 3 rfl) ?_
            refine lv_bipush (v := 7) hx hb dX2_attacked_33 (by decide) ?_
            refine lv_iand hx hb dX2_attacked_35 ?_
            refine lv_ishl hx hb dX2_attacked_36 ?_
            refine lv_ior hx hb dX2_attacked_37 ?_
            refine lv_istore_n (lv' := [(2, .int (x2 ||| (1 <<< (((nI k) &&& 7) &&& 31)))), (0, .ref (bd 0)), (1, .int st), (3, .int (nI k))]) hx hb dX2_attacked_38 rfl hl (by decide) rfl (fun ls hl => ?_)
            refine lv_iinc (v := (nI (k + 1))) (lv' := [(3, .int (nI (k + 1))), (2, .int (x2 ||| (1 <<< (((nI k) &&& 7) &&& 31)))), (0, .ref (bd 0)), (1, .int st)]) hx hb dX2_attacked_39 hl (k := 3) rfl (nI_1 k) (by decide) rfl (fun ls hl => ?_)
            refine lv_goto (tgt := 4) hx hb dX2_attacked_42 (by decide) ?_
            exact ih4 (k + 1) (x2 ||| (1 <<< (((nI k) &&& 7) &&& 31))) (by omega) (by omega) (by rw [m_att, cIf_t ⟨c2, bI_n hw3 c4⟩, e2]) H locs hP hD hS ls (lv_sub hl [2, 3, 1, 0] rfl)
  exact loop4 65 0 0 (by omega) (by omega) rfl s.heap [] hP hD hS ls (lv_sub hl [2, 3, 1, 0] rfl)

abbrev rm_X2_defended : Room := { frames := 2, cells := 0, slots := 0, locals := 45 }
set_option maxHeartbeats 4000000 in
set_option maxRecDepth 100000 in
theorem metX2_defended (l : Launch) (dC : Nat → ClassId) (dI : Nat → Nat → Nat) (cZ : ClassId) (bd : Nat → Nat) (sz : Nat) (n : Int32) (al : Int32) (th : Nat → Int32) (st : Int32)  : Met l yX2_defended (ws_ yX2_defended cX2_defended 5 (some .int)) rm_X2_defended (gP (dC, dI) (tyM cZ) (wM cZ bd n al th) sz [.ref (bd 0), .int st]) (gQi (dC, dI) (fun (r : Int32) (_ : Unit) => r = m_df th al st) (wM cZ bd n al th) (fun _ => (wM cZ bd n al th)) sz) 0 0 (va_A (wM cZ bd n al th) sz) := by
  refine gstart (own := RX2) (by decide) rfl (Nat.le_of_ble_eq_true rfl) ?_
  intro p e s m below meth c hx hb hr hlocks hml hown hts hsz hP hK hD hA hnm ls hl
  have hS : va_S (va_A (wM cZ bd n al th) sz) s.heap s.heap [] := va_S.rf
  have hl : lv_has ls 5 [(0, .ref (bd 0)), (1, .int st)] := hl
  refine lv_aload_n hx hb dX2_defended_0 rfl (lv_at hl 0 rfl) ?_
  refine lv_iload_n hx hb dX2_defended_1 rfl (lv_at hl 1 rfl) ?_
  refine gcalli (As := [.int st]) (rest := []) ⟨hx, hb, hml, hown, hts⟩ (metX2_attacked l dC dI cZ bd s.heap.size n al th st) (cw_X2_attacked hts ⟨Nat.le_of_ble_eq_true rfl, Nat.le_of_ble_eq_true rfl⟩) hK hP hD hS hA (ci := 1) (q0 := 0) rfl rfl hl.1 rfl (Nat.le_of_ble_eq_true rfl) dX2_defended_2 ⟨Nat.le_of_ble_eq_true rfl, Nat.le_of_ble_eq_true rfl⟩ (fun rha1 u H locs ha1 hP hD hS => ?_)
  refine tope (y := m_at th st) ha1 ?_
  refine lv_istore_n (lv' := [(2, .int (m_at th st)), (0, .ref (bd 0)), (1, .int st)]) hx hb dX2_defended_5 rfl hl (by decide) rfl (fun ls hl => ?_)
  refine lv_aload_n hx hb dX2_defended_6 rfl (lv_at hl 1 rfl) ?_
  refine gX2_al hx hb hts hown hK hP dX2_defended_7 ?_
  refine lv_istore_n (lv' := [(3, .int al), (2, .int (m_at th st)), (0, .ref (bd 0)), (1, .int st)]) hx hb dX2_defended_10 rfl hl (by decide) rfl (fun ls hl => ?_)
  refine lv_iconst (v := 0) hx hb dX2_defended_11 (by decide) ?_
  refine lv_istore (lv' := [(4, .int 0), (3, .int al), (2, .int (m_at th st)), (0, .ref (bd 0)), (1, .int st)]) hx hb dX2_defended_12 hl (by decide) rfl (fun ls hl => ?_)
  have loop14 : ∀ (fl : Nat) (k : Nat) (x3 : Int32), k ≤ 64 → 64 < k + fl → x3 = m_dfk th al (m_at th st) k → ∀ (H : Heap) (locs : List Loc), va_P (dC, dI) cl2 (wM cZ bd n al th) H → va_D (va_A (wM cZ bd n al th) sz) (wM cZ bd n al th) → va_S (va_A (wM cZ bd n al th) sz) s.heap H locs → ∀ (ls : Array Slot), lv_has ls 5 [(0, .ref (bd 0)), (2, .int (m_at th st)), (3, .int x3), (4, .int (nI k))] → W p l e rm_X2_defended s m ([.ref (bd 0), .int st] : List Value).toArray below meth c H locs 0 0 (MQ below (gQi (dC, dI) (fun (r : Int32) (_ : Unit) => r = m_df th al st) (wM cZ bd n al th) (fun _ => (wM cZ bd n al th)) sz) ([.ref (bd 0), .int st] : List Value).toArray s 0 0 (va_A (wM cZ bd n al th) sz)) (F0 m 14 ls []) := by
    intro fl
    induction fl with
    | zero =>
      intro k x3 hk hf e3
      exact absurd hf (by omega)
    | succ fl ih14 =>
      intro k x3 hk hf e3 H locs hP hD hS ls hl
      refine lv_iload hx hb dX2_defended_14 (lv_at hl 3 rfl) ?_
      refine lv_bipush (v := 64) hx hb dX2_defended_16 (by decide) ?_
      refine lv_icmp_ge (tgt := 61) hx hb dX2_defended_18 (by decide) (fun c2 => ?_) (fun c2 => ?_)
      · refine lv_iload_n hx hb dX2_defended_61 rfl (lv_at hl 2 rfl) ?_
        exact greti hx hb hr hlocks () (by show x3 = _; rw [e3, kge (by decide : (64 : Int32) = nI 64) (by decide) hk c2]; rfl) hP hD hS dX2_defended_62
      · have hlt : k < 64 := klt (by decide : (64 : Int32) = nI 64) (by omega) c2
        refine lv_aload_n hx hb dX2_defended_21 rfl (lv_at hl 0 rfl) ?_
        refine gX2_th hx hb hts hown hK hP dX2_defended_22 ?_
        refine lv_iload hx hb dX2_defended_25 (lv_at hl 3 rfl) ?_
        refine lX2_th hx hb hK hP k rfl hlt dX2_defended_27 ?_
        refine lv_if_eq (tgt := 55) hx hb dX2_defended_28 (by decide) (fun c3 => ?_) (fun c3 => ?_)
        · refine lv_iinc (v := (nI (k + 1))) (lv' := [(4, .int (nI (k + 1))), (0, .ref (bd 0)), (2, .int (m_at th st)), (3, .int x3)]) hx hb dX2_defended_55 hl (k := 3) rfl (nI_1 k) (by decide) rfl (fun ls hl => ?_)
          refine lv_goto (tgt := 14) hx hb dX2_defended_58 (by decide) ?_
          exact ih14 (k + 1) x3 (by omega) (by omega) (by rw [m_dfk, cIf_f (fun h => h.1 c3), e3]) H locs hP hD hS ls (lv_sub hl [1, 2, 3, 0] rfl)
        · refine lv_aload_n hx hb dX2_defended_31 rfl (lv_at hl 0 rfl) ?_
          refine lv_iload_n hx hb dX2_defended_32 rfl (lv_at hl 1 rfl) ?_
          refine lv_iload hx hb dX2_defended_33 (lv_at hl 3 rfl) ?_
          refine lv_iconst (v := 3) hx hb dX2_defended_35 (by decide) ?_
          refine lv_ishr hx hb dX2_defended_36 ?_
          refine gcalli (As := [.int (m_at th st), .int ((nI k) >>> (3 &&& 31))]) (rest := []) ⟨hx, hb, hml, hown, hts⟩ (metX2_in l dC dI cZ bd H.size n al th (m_at th st) ((nI k) >>> (3 &&& 31))) (cw_X2_in hts ⟨Nat.le_of_ble_eq_true rfl, Nat.le_of_ble_eq_true rfl⟩) hK hP hD hS hA (ci := 1) (q0 := 0) rfl rfl hl.1 rfl (Nat.le_of_ble_eq_true rfl) dX2_defended_37 ⟨Nat.le_of_ble_eq_true rfl, Nat.le_of_ble_eq_true rfl⟩ (fun r4 u H locs hw4 hP hD hS => ?_)
          refine lv_if_ne (tgt := 55) hx hb dX2_defended_40 (by decide) (fun c5 => ?_) (fun c5 => ?_)
          · refine lv_iinc (v := (nI (k + 1))) (lv' := [(4, .int (nI (k + 1))), (0, .ref (bd 0)), (2, .int (m_at th st)), (3, .int x3)]) hx hb dX2_defended_55 hl (k := 3) rfl (nI_1 k) (by decide) rfl (fun ls hl => ?_)
            refine lv_goto (tgt := 14) hx hb dX2_defended_58 (by decide) ?_
            exact ih14 (k + 1) x3 (by omega) (by omega) (by rw [m_dfk, cIf_f (fun h => h.2 (bI_n hw4 c5)), e3]) H locs hP hD hS ls (lv_sub hl [1, 2, 3, 0] rfl)
          · refine lv_iload_n hx hb dX2_defended_43 rfl (lv_at hl 2 rfl) ?_
            refine lv_iconst (v := 1) hx hb dX2_defended_44 (by decide) ?_
            refine lv_iload hx hb dX2_defended_45 (lv_at hl 3 rfl) ?_
            refine lv_bipush (v := 7) hx hb dX2_defended_47 (by decide) ?_
            refine lv_iand hx hb dX2_defended_49 ?_
            refine lv_ishl hx hb dX2_defended_50 ?_
            refine lv_iconst (v := (-1)) hx hb dX2_defended_51 (by decide) ?_
            refine lv_ixor hx hb dX2_defended_52 ?_
            refine lv_iand hx hb dX2_defended_53 ?_
            refine lv_istore_n (lv' := [(3, .int (x3 &&& ((1 <<< (((nI k) &&& 7) &&& 31)) ^^^ (-1)))), (0, .ref (bd 0)), (2, .int (m_at th st)), (4, .int (nI k))]) hx hb dX2_defended_54 rfl hl (by decide) rfl (fun ls hl => ?_)
            refine lv_iinc (v := (nI (k + 1))) (lv' := [(4, .int (nI (k + 1))), (3, .int (x3 &&& ((1 <<< (((nI k) &&& 7) &&& 31)) ^^^ (-1)))), (0, .ref (bd 0)), (2, .int (m_at th st))]) hx hb dX2_defended_55 hl (k := 3) rfl (nI_1 k) (by decide) rfl (fun ls hl => ?_)
            refine lv_goto (tgt := 14) hx hb dX2_defended_58 (by decide) ?_
            exact ih14 (k + 1) (x3 &&& ((1 <<< (((nI k) &&& 7) &&& 31)) ^^^ (-1))) (by omega) (by omega) (by rw [m_dfk, cIf_t ⟨c3, bI_z hw4 c5⟩, e3]) H locs hP hD hS ls (lv_sub hl [2, 3, 1, 0] rfl)
  exact loop14 65 0 al (by omega) (by omega) rfl H locs hP hD hS ls (lv_sub hl [3, 2, 1, 0] rfl)

abbrev rm_X2_conflictFree : Room := { frames := 2, cells := 0, slots := 0, locals := 45 }
set_option maxHeartbeats 4000000 in
set_option maxRecDepth 100000 in
theorem metX2_conflictFree (l : Launch) (dC : Nat → ClassId) (dI : Nat → Nat → Nat) (cZ : ClassId) (bd : Nat → Nat) (sz : Nat) (n : Int32) (al : Int32) (th : Nat → Int32) (st : Int32)  : Met l yX2_conflictFree (ws_ yX2_conflictFree cX2_conflictFree 2 (some .boolean)) rm_X2_conflictFree (gP (dC, dI) (tyM cZ) (wM cZ bd n al th) sz [.ref (bd 0), .int st]) (gQi (dC, dI) (fun (r : Int32) (_ : Unit) => r = bI (m_cf th st)) (wM cZ bd n al th) (fun _ => (wM cZ bd n al th)) sz) 0 0 (va_A (wM cZ bd n al th) sz) := by
  refine gstart (own := RX2) (by decide) rfl (Nat.le_of_ble_eq_true rfl) ?_
  intro p e s m below meth c hx hb hr hlocks hml hown hts hsz hP hK hD hA hnm ls hl
  have hS : va_S (va_A (wM cZ bd n al th) sz) s.heap s.heap [] := va_S.rf
  have hl : lv_has ls 2 [(0, .ref (bd 0)), (1, .int st)] := hl
  refine lv_aload_n hx hb dX2_conflictFree_0 rfl (lv_at hl 0 rfl) ?_
  refine lv_iload_n hx hb dX2_conflictFree_1 rfl (lv_at hl 1 rfl) ?_
  refine gcalli (As := [.int st]) (rest := []) ⟨hx, hb, hml, hown, hts⟩ (metX2_attacked l dC dI cZ bd s.heap.size n al th st) (cw_X2_attacked hts ⟨Nat.le_of_ble_eq_true rfl, Nat.le_of_ble_eq_true rfl⟩) hK hP hD hS hA (ci := 1) (q0 := 0) rfl rfl hl.1 rfl (Nat.le_of_ble_eq_true rfl) dX2_conflictFree_2 ⟨Nat.le_of_ble_eq_true rfl, Nat.le_of_ble_eq_true rfl⟩ (fun r1 u H locs hw1 hP hD hS => ?_)
  refine lv_iload_n hx hb dX2_conflictFree_5 rfl (lv_at hl 1 rfl) ?_
  refine lv_iand hx hb dX2_conflictFree_6 ?_
  refine lv_if_ne (tgt := 14) hx hb dX2_conflictFree_7 (by decide) (fun c2 => ?_) (fun c2 => ?_)
  · refine lv_iconst (v := 0) hx hb dX2_conflictFree_14 (by decide) ?_
    exact gretz hx hb hr hlocks rfl () (by exact (bI_f (show ¬ m_cf th st from by unfold m_cf; rw [← hw1]; exact c2)).symm) hP hD hS dX2_conflictFree_15
  · refine lv_iconst (v := 1) hx hb dX2_conflictFree_10 (by decide) ?_
    refine lv_goto (tgt := 15) hx hb dX2_conflictFree_11 (by decide) ?_
    exact gretz hx hb hr hlocks rfl () (by exact (bI_t (show m_cf th st from by unfold m_cf; rw [← hw1]; exact c2)).symm) hP hD hS dX2_conflictFree_15

abbrev rm_X2_admissible : Room := { frames := 3, cells := 0, slots := 0, locals := 69 }
set_option maxHeartbeats 4000000 in
set_option maxRecDepth 100000 in
theorem metX2_admissible (l : Launch) (dC : Nat → ClassId) (dI : Nat → Nat → Nat) (cZ : ClassId) (bd : Nat → Nat) (sz : Nat) (n : Int32) (al : Int32) (th : Nat → Int32) (st : Int32)  : Met l yX2_admissible (ws_ yX2_admissible cX2_admissible 2 (some .boolean)) rm_X2_admissible (gP (dC, dI) (tyM cZ) (wM cZ bd n al th) sz [.ref (bd 0), .int st]) (gQi (dC, dI) (fun (r : Int32) (_ : Unit) => r = bI (m_ad th al st)) (wM cZ bd n al th) (fun _ => (wM cZ bd n al th)) sz) 0 0 (va_A (wM cZ bd n al th) sz) := by
  refine gstart (own := RX2) (by decide) rfl (Nat.le_of_ble_eq_true rfl) ?_
  intro p e s m below meth c hx hb hr hlocks hml hown hts hsz hP hK hD hA hnm ls hl
  have hS : va_S (va_A (wM cZ bd n al th) sz) s.heap s.heap [] := va_S.rf
  have hl : lv_has ls 2 [(0, .ref (bd 0)), (1, .int st)] := hl
  refine lv_aload_n hx hb dX2_admissible_0 rfl (lv_at hl 0 rfl) ?_
  refine lv_iload_n hx hb dX2_admissible_1 rfl (lv_at hl 1 rfl) ?_
  refine gcalli (As := [.int st]) (rest := []) ⟨hx, hb, hml, hown, hts⟩ (metX2_conflictFree l dC dI cZ bd s.heap.size n al th st) (cw_X2_conflictFree hts ⟨Nat.le_of_ble_eq_true rfl, Nat.le_of_ble_eq_true rfl⟩) hK hP hD hS hA (ci := 1) (q0 := 0) rfl rfl hl.1 rfl (Nat.le_of_ble_eq_true rfl) dX2_admissible_2 ⟨Nat.le_of_ble_eq_true rfl, Nat.le_of_ble_eq_true rfl⟩ (fun rhc1 u H locs hc1 hP hD hS => ?_)
  refine lv_if_eq (tgt := 24) hx hb dX2_admissible_5 (by decide) (fun c2 => ?_) (fun c2 => ?_)
  · refine lv_iconst (v := 0) hx hb dX2_admissible_24 (by decide) ?_
    exact gretz hx hb hr hlocks rfl () (by exact (bI_f (fun h => bI_z hc1 c2 h.1)).symm) hP hD hS dX2_admissible_25
  · refine lv_iload_n hx hb dX2_admissible_8 rfl (lv_at hl 1 rfl) ?_
    refine lv_aload_n hx hb dX2_admissible_9 rfl (lv_at hl 0 rfl) ?_
    refine lv_iload_n hx hb dX2_admissible_10 rfl (lv_at hl 1 rfl) ?_
    refine gcalli (As := [.int st]) (rest := [.int st]) ⟨hx, hb, hml, hown, hts⟩ (metX2_defended l dC dI cZ bd H.size n al th st) (cw_X2_defended hts ⟨Nat.le_of_ble_eq_true rfl, Nat.le_of_ble_eq_true rfl⟩) hK hP hD hS hA (ci := 1) (q0 := 0) rfl rfl hl.1 rfl (Nat.le_of_ble_eq_true rfl) dX2_admissible_11 ⟨Nat.le_of_ble_eq_true rfl, Nat.le_of_ble_eq_true rfl⟩ (fun rhd3 u H locs hd3 hP hD hS => ?_)
    refine lv_iconst (v := (-1)) hx hb dX2_admissible_14 (by decide) ?_
    refine lv_ixor hx hb dX2_admissible_15 ?_
    refine lv_iand hx hb dX2_admissible_16 ?_
    refine lv_if_ne (tgt := 24) hx hb dX2_admissible_17 (by decide) (fun c4 => ?_) (fun c4 => ?_)
    · refine lv_iconst (v := 0) hx hb dX2_admissible_24 (by decide) ?_
      exact gretz hx hb hr hlocks rfl () (by exact (bI_f (fun h => c4 (by rw [hd3]; exact h.2))).symm) hP hD hS dX2_admissible_25
    · refine lv_iconst (v := 1) hx hb dX2_admissible_20 (by decide) ?_
      refine lv_goto (tgt := 25) hx hb dX2_admissible_21 (by decide) ?_
      exact gretz hx hb hr hlocks rfl () (by exact (bI_t ⟨bI_n hc1 c2, by rw [← hd3]; exact c4⟩).symm) hP hD hS dX2_admissible_25

abbrev rm_X2_maximal : Room := { frames := 4, cells := 0, slots := 0, locals := 90 }
set_option maxHeartbeats 4000000 in
set_option maxRecDepth 100000 in
theorem metX2_maximal (l : Launch) (dC : Nat → ClassId) (dI : Nat → Nat → Nat) (cZ : ClassId) (bd : Nat → Nat) (sz : Nat) (n : Int32) (th : Nat → Int32) (N : Nat) (st : Int32) (hN : N < 256) : Met l yX2_maximal (ws_ yX2_maximal cX2_maximal 3 (some .boolean)) rm_X2_maximal (gP (dC, dI) (tyM cZ) (wM cZ bd n (nI N) th) sz [.ref (bd 0), .int st]) (gQi (dC, dI) (fun (r : Int32) (_ : Unit) => r = bI (m_mx th (nI N) st N)) (wM cZ bd n (nI N) th) (fun _ => (wM cZ bd n (nI N) th)) sz) 0 0 (va_A (wM cZ bd n (nI N) th) sz) := by
  refine gstart (own := RX2) (by decide) rfl (Nat.le_of_ble_eq_true rfl) ?_
  intro p e s m below meth c hx hb hr hlocks hml hown hts hsz hP hK hD hA hnm ls hl
  have hS : va_S (va_A (wM cZ bd n (nI N) th) sz) s.heap s.heap [] := va_S.rf
  have hl : lv_has ls 3 [(0, .ref (bd 0)), (1, .int st)] := hl
  refine lv_iconst (v := 0) hx hb dX2_maximal_0 (by decide) ?_
  refine lv_istore_n (lv' := [(2, .int 0), (0, .ref (bd 0)), (1, .int st)]) hx hb dX2_maximal_1 rfl hl (by decide) rfl (fun ls hl => ?_)
  have loop2 : ∀ (fl : Nat) (k : Nat), k ≤ N + 1 → N + 1 < k + fl → (∀ j, j < k → ¬ m_hm th (nI N) st j) → ∀ (H : Heap) (locs : List Loc), va_P (dC, dI) cl2 (wM cZ bd n (nI N) th) H → va_D (va_A (wM cZ bd n (nI N) th) sz) (wM cZ bd n (nI N) th) → va_S (va_A (wM cZ bd n (nI N) th) sz) s.heap H locs → ∀ (ls : Array Slot), lv_has ls 3 [(0, .ref (bd 0)), (1, .int st), (2, .int (nI k))] → W p l e rm_X2_maximal s m ([.ref (bd 0), .int st] : List Value).toArray below meth c H locs 0 0 (MQ below (gQi (dC, dI) (fun (r : Int32) (_ : Unit) => r = bI (m_mx th (nI N) st N)) (wM cZ bd n (nI N) th) (fun _ => (wM cZ bd n (nI N) th)) sz) ([.ref (bd 0), .int st] : List Value).toArray s 0 0 (va_A (wM cZ bd n (nI N) th) sz)) (F0 m 2 ls []) := by
    intro fl
    induction fl with
    | zero =>
      intro k hk hf hI
      exact absurd hf (by omega)
    | succ fl ih2 =>
      intro k hk hf hI H locs hP hD hS ls hl
      refine lv_iload_n hx hb dX2_maximal_2 rfl (lv_at hl 2 rfl) ?_
      refine lv_aload_n hx hb dX2_maximal_3 rfl (lv_at hl 0 rfl) ?_
      refine gX2_al hx hb hts hown hK hP dX2_maximal_4 ?_
      refine lv_icmp_gt (tgt := 39) hx hb dX2_maximal_7 (by decide) (fun c1 => ?_) (fun c1 => ?_)
      · refine lv_iconst (v := 1) hx hb dX2_maximal_39 (by decide) ?_
        exact gretz hx hb hr hlocks rfl () (by exact (bI_t (show m_mx th (nI N) st N from by have h := kgt (by omega) hk c1; rw [h] at hI; exact hI)).symm) hP hD hS dX2_maximal_40
      · have hle : k ≤ N := kle (by omega) c1
        refine lv_iload_n hx hb dX2_maximal_10 rfl (lv_at hl 2 rfl) ?_
        refine lv_iload_n hx hb dX2_maximal_11 rfl (lv_at hl 1 rfl) ?_
        refine lv_icmp_eq (tgt := 33) hx hb dX2_maximal_12 (by decide) (fun c2 => ?_) (fun c2 => ?_)
        · refine lv_iinc (v := (nI (k + 1))) (lv' := [(2, .int (nI (k + 1))), (0, .ref (bd 0)), (1, .int st)]) hx hb dX2_maximal_33 hl (k := 2) rfl (nI_1 k) (by decide) rfl (fun ls hl => ?_)
          refine lv_goto (tgt := 2) hx hb dX2_maximal_36 (by decide) ?_
          exact ih2 (k + 1) (by omega) (by omega) (lt_s hI (fun h => h.1 c2)) H locs hP hD hS ls (lv_sub hl [1, 2, 0] rfl)
        · refine lv_iload_n hx hb dX2_maximal_15 rfl (lv_at hl 1 rfl) ?_
          refine lv_iload_n hx hb dX2_maximal_16 rfl (lv_at hl 2 rfl) ?_
          refine lv_iconst (v := (-1)) hx hb dX2_maximal_17 (by decide) ?_
          refine lv_ixor hx hb dX2_maximal_18 ?_
          refine lv_iand hx hb dX2_maximal_19 ?_
          refine lv_if_ne (tgt := 33) hx hb dX2_maximal_20 (by decide) (fun c3 => ?_) (fun c3 => ?_)
          · refine lv_iinc (v := (nI (k + 1))) (lv' := [(2, .int (nI (k + 1))), (0, .ref (bd 0)), (1, .int st)]) hx hb dX2_maximal_33 hl (k := 2) rfl (nI_1 k) (by decide) rfl (fun ls hl => ?_)
            refine lv_goto (tgt := 2) hx hb dX2_maximal_36 (by decide) ?_
            exact ih2 (k + 1) (by omega) (by omega) (lt_s hI (fun h => c3 h.2.1)) H locs hP hD hS ls (lv_sub hl [1, 2, 0] rfl)
          · refine lv_aload_n hx hb dX2_maximal_23 rfl (lv_at hl 0 rfl) ?_
            refine lv_iload_n hx hb dX2_maximal_24 rfl (lv_at hl 2 rfl) ?_
            refine gcalli (As := [.int (nI k)]) (rest := []) ⟨hx, hb, hml, hown, hts⟩ (metX2_admissible l dC dI cZ bd H.size n (nI N) th (nI k)) (cw_X2_admissible hts ⟨Nat.le_of_ble_eq_true rfl, Nat.le_of_ble_eq_true rfl⟩) hK hP hD hS hA (ci := 1) (q0 := 0) rfl rfl hl.1 rfl (Nat.le_of_ble_eq_true rfl) dX2_maximal_25 ⟨Nat.le_of_ble_eq_true rfl, Nat.le_of_ble_eq_true rfl⟩ (fun r4 u H locs hw4 hP hD hS => ?_)
            refine lv_if_eq (tgt := 33) hx hb dX2_maximal_28 (by decide) (fun c5 => ?_) (fun c5 => ?_)
            · refine lv_iinc (v := (nI (k + 1))) (lv' := [(2, .int (nI (k + 1))), (0, .ref (bd 0)), (1, .int st)]) hx hb dX2_maximal_33 hl (k := 2) rfl (nI_1 k) (by decide) rfl (fun ls hl => ?_)
              refine lv_goto (tgt := 2) hx hb dX2_maximal_36 (by decide) ?_
              exact ih2 (k + 1) (by omega) (by omega) (lt_s hI (fun h => bI_z hw4 c5 h.2.2)) H locs hP hD hS ls (lv_sub hl [1, 2, 0] rfl)
            · refine lv_iconst (v := 0) hx hb dX2_maximal_31 (by decide) ?_
              exact gretz hx hb hr hlocks rfl () (by exact (bI_f (fun h => h k (by omega) ⟨c2, c3, bI_n hw4 c5⟩)).symm) hP hD hS dX2_maximal_32
  exact loop2 (N + 2) 0 (by omega) (by omega) lt_0 s.heap [] hP hD hS ls (lv_sub hl [1, 2, 0] rfl)

abbrev rm_X2_widest : Room := { frames := 4, cells := 0, slots := 0, locals := 90 }
set_option maxHeartbeats 4000000 in
set_option maxRecDepth 100000 in
theorem metX2_widest (l : Launch) (dC : Nat → ClassId) (dI : Nat → Nat → Nat) (cZ : ClassId) (bd : Nat → Nat) (sz : Nat) (n : Int32) (th : Nat → Int32) (N : Nat) (st : Int32) (hN : N < 256) : Met l yX2_widest (ws_ yX2_widest cX2_widest 5 (some .boolean)) rm_X2_widest (gP (dC, dI) (tyM cZ) (wM cZ bd n (nI N) th) sz [.ref (bd 0), .int st]) (gQi (dC, dI) (fun (r : Int32) (_ : Unit) => r = bI (m_wd th (nI N) st N)) (wM cZ bd n (nI N) th) (fun _ => (wM cZ bd n (nI N) th)) sz) 0 0 (va_A (wM cZ bd n (nI N) th) sz) := by
  refine gstart (own := RX2) (by decide) rfl (Nat.le_of_ble_eq_true rfl) ?_
  intro p e s m below meth c hx hb hr hlocks hml hown hts hsz hP hK hD hA hnm ls hl
  have hS : va_S (va_A (wM cZ bd n (nI N) th) sz) s.heap s.heap [] := va_S.rf
  have hl : lv_has ls 5 [(0, .ref (bd 0)), (1, .int st)] := hl
  refine lv_iload_n hx hb dX2_widest_0 rfl (lv_at hl 1 rfl) ?_
  refine lv_aload_n hx hb dX2_widest_1 rfl (lv_at hl 0 rfl) ?_
  refine lv_iload_n hx hb dX2_widest_2 rfl (lv_at hl 1 rfl) ?_
  refine gcalli (As := [.int st]) (rest := [.int st]) ⟨hx, hb, hml, hown, hts⟩ (metX2_attacked l dC dI cZ bd s.heap.size n (nI N) th st) (cw_X2_attacked hts ⟨Nat.le_of_ble_eq_true rfl, Nat.le_of_ble_eq_true rfl⟩) hK hP hD hS hA (ci := 1) (q0 := 0) rfl rfl hl.1 rfl (Nat.le_of_ble_eq_true rfl) dX2_widest_3 ⟨Nat.le_of_ble_eq_true rfl, Nat.le_of_ble_eq_true rfl⟩ (fun rha1 u H locs ha1 hP hD hS => ?_)
  refine lv_ior hx hb dX2_widest_6 ?_
  refine tope (y := (m_rg th st)) (by rw [ha1, m_rg]) ?_
  refine lv_istore_n (lv' := [(2, .int (m_rg th st)), (0, .ref (bd 0)), (1, .int st)]) hx hb dX2_widest_7 rfl hl (by decide) rfl (fun ls hl => ?_)
  refine lv_iconst (v := 0) hx hb dX2_widest_8 (by decide) ?_
  refine lv_istore_n (lv' := [(3, .int 0), (2, .int (m_rg th st)), (0, .ref (bd 0)), (1, .int st)]) hx hb dX2_widest_9 rfl hl (by decide) rfl (fun ls hl => ?_)
  have loop10 : ∀ (fl : Nat) (k : Nat), k ≤ N + 1 → N + 1 < k + fl → (∀ j, j < k → ¬ m_hw th (nI N) st j) → ∀ (H : Heap) (locs : List Loc), va_P (dC, dI) cl2 (wM cZ bd n (nI N) th) H → va_D (va_A (wM cZ bd n (nI N) th) sz) (wM cZ bd n (nI N) th) → va_S (va_A (wM cZ bd n (nI N) th) sz) s.heap H locs → ∀ (ls : Array Slot), lv_has ls 5 [(0, .ref (bd 0)), (2, .int (m_rg th st)), (3, .int (nI k))] → W p l e rm_X2_widest s m ([.ref (bd 0), .int st] : List Value).toArray below meth c H locs 0 0 (MQ below (gQi (dC, dI) (fun (r : Int32) (_ : Unit) => r = bI (m_wd th (nI N) st N)) (wM cZ bd n (nI N) th) (fun _ => (wM cZ bd n (nI N) th)) sz) ([.ref (bd 0), .int st] : List Value).toArray s 0 0 (va_A (wM cZ bd n (nI N) th) sz)) (F0 m 10 ls []) := by
    intro fl
    induction fl with
    | zero =>
      intro k hk hf hI
      exact absurd hf (by omega)
    | succ fl ih10 =>
      intro k hk hf hI H locs hP hD hS ls hl
      refine lv_iload_n hx hb dX2_widest_10 rfl (lv_at hl 2 rfl) ?_
      refine lv_aload_n hx hb dX2_widest_11 rfl (lv_at hl 0 rfl) ?_
      refine gX2_al hx hb hts hown hK hP dX2_widest_12 ?_
      refine lv_icmp_gt (tgt := 58) hx hb dX2_widest_15 (by decide) (fun c2 => ?_) (fun c2 => ?_)
      · refine lv_iconst (v := 1) hx hb dX2_widest_58 (by decide) ?_
        exact gretz hx hb hr hlocks rfl () (by exact (bI_t (show m_wd th (nI N) st N from by have h := kgt (by omega) hk c2; rw [h] at hI; exact hI)).symm) hP hD hS dX2_widest_59
      · have hle : k ≤ N := kle (by omega) c2
        refine lv_iload_n hx hb dX2_widest_18 rfl (lv_at hl 2 rfl) ?_
        refine lv_aload_n hx hb dX2_widest_19 rfl (lv_at hl 0 rfl) ?_
        refine lv_iload_n hx hb dX2_widest_20 rfl (lv_at hl 2 rfl) ?_
        refine gcalli (As := [.int (nI k)]) (rest := [.int (nI k)]) ⟨hx, hb, hml, hown, hts⟩ (metX2_attacked l dC dI cZ bd H.size n (nI N) th (nI k)) (cw_X2_attacked hts ⟨Nat.le_of_ble_eq_true rfl, Nat.le_of_ble_eq_true rfl⟩) hK hP hD hS hA (ci := 1) (q0 := 0) rfl rfl hl.1 rfl (Nat.le_of_ble_eq_true rfl) dX2_widest_21 ⟨Nat.le_of_ble_eq_true rfl, Nat.le_of_ble_eq_true rfl⟩ (fun rha3 u H locs ha3 hP hD hS => ?_)
        refine lv_ior hx hb dX2_widest_24 ?_
        refine tope (y := (m_rg th (nI k))) (by rw [ha3, m_rg]) ?_
        refine lv_istore (lv' := [(4, .int (m_rg th (nI k))), (0, .ref (bd 0)), (2, .int (m_rg th st)), (3, .int (nI k))]) hx hb dX2_widest_25 hl (by decide) rfl (fun ls hl => ?_)
        refine lv_iload hx hb dX2_widest_27 (lv_at hl 0 rfl) ?_
        refine lv_iload_n hx hb dX2_widest_29 rfl (lv_at hl 2 rfl) ?_
        refine lv_icmp_eq (tgt := 52) hx hb dX2_widest_30 (by decide) (fun c4 => ?_) (fun c4 => ?_)
        · refine lv_iinc (v := (nI (k + 1))) (lv' := [(3, .int (nI (k + 1))), (4, .int (m_rg th (nI k))), (0, .ref (bd 0)), (2, .int (m_rg th st))]) hx hb dX2_widest_52 hl (k := 3) rfl (nI_1 k) (by decide) rfl (fun ls hl => ?_)
          refine lv_goto (tgt := 10) hx hb dX2_widest_55 (by decide) ?_
          exact ih10 (k + 1) (by omega) (by omega) (lt_s hI (fun h => h.1 c4)) H locs hP hD hS ls (lv_sub hl [2, 3, 0] rfl)
        · refine lv_iload_n hx hb dX2_widest_33 rfl (lv_at hl 2 rfl) ?_
          refine lv_iload hx hb dX2_widest_34 (lv_at hl 0 rfl) ?_
          refine lv_iconst (v := (-1)) hx hb dX2_widest_36 (by decide) ?_
          refine lv_ixor hx hb dX2_widest_37 ?_
          refine lv_iand hx hb dX2_widest_38 ?_
          refine lv_if_ne (tgt := 52) hx hb dX2_widest_39 (by decide) (fun c5 => ?_) (fun c5 => ?_)
          · refine lv_iinc (v := (nI (k + 1))) (lv' := [(3, .int (nI (k + 1))), (4, .int (m_rg th (nI k))), (0, .ref (bd 0)), (2, .int (m_rg th st))]) hx hb dX2_widest_52 hl (k := 3) rfl (nI_1 k) (by decide) rfl (fun ls hl => ?_)
            refine lv_goto (tgt := 10) hx hb dX2_widest_55 (by decide) ?_
            exact ih10 (k + 1) (by omega) (by omega) (lt_s hI (fun h => c5 h.2.1)) H locs hP hD hS ls (lv_sub hl [2, 3, 0] rfl)
          · refine lv_aload_n hx hb dX2_widest_42 rfl (lv_at hl 1 rfl) ?_
            refine lv_iload_n hx hb dX2_widest_43 rfl (lv_at hl 3 rfl) ?_
            refine gcalli (As := [.int (nI k)]) (rest := []) ⟨hx, hb, hml, hown, hts⟩ (metX2_admissible l dC dI cZ bd H.size n (nI N) th (nI k)) (cw_X2_admissible hts ⟨Nat.le_of_ble_eq_true rfl, Nat.le_of_ble_eq_true rfl⟩) hK hP hD hS hA (ci := 1) (q0 := 0) rfl rfl hl.1 rfl (Nat.le_of_ble_eq_true rfl) dX2_widest_44 ⟨Nat.le_of_ble_eq_true rfl, Nat.le_of_ble_eq_true rfl⟩ (fun r6 u H locs hw6 hP hD hS => ?_)
            refine lv_if_eq (tgt := 52) hx hb dX2_widest_47 (by decide) (fun c7 => ?_) (fun c7 => ?_)
            · refine lv_iinc (v := (nI (k + 1))) (lv' := [(3, .int (nI (k + 1))), (4, .int (m_rg th (nI k))), (0, .ref (bd 0)), (2, .int (m_rg th st))]) hx hb dX2_widest_52 hl (k := 3) rfl (nI_1 k) (by decide) rfl (fun ls hl => ?_)
              refine lv_goto (tgt := 10) hx hb dX2_widest_55 (by decide) ?_
              exact ih10 (k + 1) (by omega) (by omega) (lt_s hI (fun h => bI_z hw6 c7 h.2.2)) H locs hP hD hS ls (lv_sub hl [2, 3, 0] rfl)
            · refine lv_iconst (v := 0) hx hb dX2_widest_50 (by decide) ?_
              exact gretz hx hb hr hlocks rfl () (by exact (bI_f (fun h => h k (by omega) ⟨c4, c5, bI_n hw6 c7⟩)).symm) hP hD hS dX2_widest_51
  exact loop10 (N + 2) 0 (by omega) (by omega) lt_0 H locs hP hD hS ls (lv_sub hl [2, 1, 0] rfl)

abbrev rm_X2_is : Room := { frames := 5, cells := 0, slots := 0, locals := 114 }
set_option maxHeartbeats 4000000 in
set_option maxRecDepth 100000 in
theorem metX2_is (l : Launch) (dC : Nat → ClassId) (dI : Nat → Nat → Nat) (cZ : ClassId) (bd : Nat → Nat) (sz : Nat) (n : Int32) (th : Nat → Int32) (N : Nat) (kind : Int32) (st : Int32) (hN : N < 256) : Met l yX2_is (ws_ yX2_is cX2_is 3 (some .boolean)) rm_X2_is (gP (dC, dI) (tyM cZ) (wM cZ bd n (nI N) th) sz [.ref (bd 0), .int kind, .int st]) (gQi (dC, dI) (fun (r : Int32) (_ : Unit) => r = bI (m_is th N kind st)) (wM cZ bd n (nI N) th) (fun _ => (wM cZ bd n (nI N) th)) sz) 0 0 (va_A (wM cZ bd n (nI N) th) sz) := by
  refine gstart (own := RX2) (by decide) rfl (Nat.le_of_ble_eq_true rfl) ?_
  intro p e s m below meth c hx hb hr hlocks hml hown hts hsz hP hK hD hA hnm ls hl
  have hS : va_S (va_A (wM cZ bd n (nI N) th) sz) s.heap s.heap [] := va_S.rf
  have hl : lv_has ls 3 [(0, .ref (bd 0)), (1, .int kind), (2, .int st)] := hl
  refine lv_iload_n hx hb dX2_is_0 rfl (lv_at hl 1 rfl) ?_
  refine lv_iconst (v := 2) hx hb dX2_is_1 (by decide) ?_
  refine lv_icmp_ne (tgt := 33) hx hb dX2_is_2 (by decide) (fun c1 => ?_) (fun c1 => ?_)
  · refine lv_aload_n hx hb dX2_is_33 rfl (lv_at hl 0 rfl) ?_
    refine lv_iload_n hx hb dX2_is_34 rfl (lv_at hl 2 rfl) ?_
    refine gcalli (As := [.int st]) (rest := []) ⟨hx, hb, hml, hown, hts⟩ (metX2_admissible l dC dI cZ bd s.heap.size n (nI N) th st) (cw_X2_admissible hts ⟨Nat.le_of_ble_eq_true rfl, Nat.le_of_ble_eq_true rfl⟩) hK hP hD hS hA (ci := 1) (q0 := 0) rfl rfl hl.1 rfl (Nat.le_of_ble_eq_true rfl) dX2_is_35 ⟨Nat.le_of_ble_eq_true rfl, Nat.le_of_ble_eq_true rfl⟩ (fun rhm2 u H locs hm2 hP hD hS => ?_)
    refine lv_if_ne (tgt := 43) hx hb dX2_is_38 (by decide) (fun c3 => ?_) (fun c3 => ?_)
    · refine lv_iload_n hx hb dX2_is_43 rfl (lv_at hl 1 rfl) ?_
      refine lv_if_ne (tgt := 62) hx hb dX2_is_44 (by decide) (fun c4 => ?_) (fun c4 => ?_)
      · refine lv_iload_n hx hb dX2_is_62 rfl (lv_at hl 1 rfl) ?_
        refine lv_iconst (v := 1) hx hb dX2_is_63 (by decide) ?_
        refine lv_icmp_ne (tgt := 75) hx hb dX2_is_64 (by decide) (fun c5 => ?_) (fun c5 => ?_)
        · refine lv_aload_n hx hb dX2_is_75 rfl (lv_at hl 0 rfl) ?_
          refine lv_iload_n hx hb dX2_is_76 rfl (lv_at hl 2 rfl) ?_
          refine gcalli (As := [.int st]) (rest := []) ⟨hx, hb, hml, hown, hts⟩ (metX2_widest l dC dI cZ bd H.size n th N st hN) (cw_X2_widest hts ⟨Nat.le_of_ble_eq_true rfl, Nat.le_of_ble_eq_true rfl⟩) hK hP hD hS hA (ci := 1) (q0 := 0) rfl rfl hl.1 rfl (Nat.le_of_ble_eq_true rfl) dX2_is_77 ⟨Nat.le_of_ble_eq_true rfl, Nat.le_of_ble_eq_true rfl⟩ (fun rhx_6 u H locs hx_6 hP hD hS => ?_)
          exact gretz hx hb hr hlocks (nar_of hx_6) () (by show rhx_6 = _; rw [hx_6]; exact bI_iff (by unfold m_is; rw [if_neg c1, if_neg c4, if_neg c5]; exact ⟨fun h => ⟨bI_n hm2 c3, h⟩, fun h => h.2⟩)) hP hD hS dX2_is_80
        · refine lv_aload_n hx hb dX2_is_67 rfl (lv_at hl 0 rfl) ?_
          refine lv_iload_n hx hb dX2_is_68 rfl (lv_at hl 2 rfl) ?_
          refine gcalli (As := [.int st]) (rest := []) ⟨hx, hb, hml, hown, hts⟩ (metX2_maximal l dC dI cZ bd H.size n th N st hN) (cw_X2_maximal hts ⟨Nat.le_of_ble_eq_true rfl, Nat.le_of_ble_eq_true rfl⟩) hK hP hD hS hA (ci := 1) (q0 := 0) rfl rfl hl.1 rfl (Nat.le_of_ble_eq_true rfl) dX2_is_69 ⟨Nat.le_of_ble_eq_true rfl, Nat.le_of_ble_eq_true rfl⟩ (fun rhx_7 u H locs hx_7 hP hD hS => ?_)
          refine lv_goto (tgt := 80) hx hb dX2_is_72 (by decide) ?_
          exact gretz hx hb hr hlocks (nar_of hx_7) () (by show rhx_7 = _; rw [hx_7]; exact bI_iff (by unfold m_is; rw [if_neg c1, if_neg c4, if_pos c5]; exact ⟨fun h => ⟨bI_n hm2 c3, h⟩, fun h => h.2⟩)) hP hD hS dX2_is_80
      · refine lv_aload_n hx hb dX2_is_47 rfl (lv_at hl 0 rfl) ?_
        refine lv_iload_n hx hb dX2_is_48 rfl (lv_at hl 2 rfl) ?_
        refine gcalli (As := [.int st]) (rest := []) ⟨hx, hb, hml, hown, hts⟩ (metX2_defended l dC dI cZ bd H.size n (nI N) th st) (cw_X2_defended hts ⟨Nat.le_of_ble_eq_true rfl, Nat.le_of_ble_eq_true rfl⟩) hK hP hD hS hA (ci := 1) (q0 := 0) rfl rfl hl.1 rfl (Nat.le_of_ble_eq_true rfl) dX2_is_49 ⟨Nat.le_of_ble_eq_true rfl, Nat.le_of_ble_eq_true rfl⟩ (fun rhd8 u H locs hd8 hP hD hS => ?_)
        refine lv_iload_n hx hb dX2_is_52 rfl (lv_at hl 2 rfl) ?_
        refine lv_icmp_ne (tgt := 60) hx hb dX2_is_53 (by decide) (fun c9 => ?_) (fun c9 => ?_)
        · refine lv_iconst (v := 0) hx hb dX2_is_60 (by decide) ?_
          exact gretz hx hb hr hlocks rfl () (by exact (bI_f (fun h => by unfold m_is at h; rw [if_neg c1, if_pos c4] at h; exact c9 (by rw [hd8]; exact h.2))).symm) hP hD hS dX2_is_61
        · refine lv_iconst (v := 1) hx hb dX2_is_56 (by decide) ?_
          refine lv_goto (tgt := 61) hx hb dX2_is_57 (by decide) ?_
          exact gretz hx hb hr hlocks rfl () (by exact (bI_t (show m_is th N kind st from by unfold m_is; rw [if_neg c1, if_pos c4]; exact ⟨bI_n hm2 c3, by rw [← hd8]; exact c9⟩)).symm) hP hD hS dX2_is_61
    · refine lv_iconst (v := 0) hx hb dX2_is_41 (by decide) ?_
      exact gretz hx hb hr hlocks rfl () (by exact (bI_f (fun h => by unfold m_is at h; rw [if_neg c1] at h; exact bI_z hm2 c3 h.1)).symm) hP hD hS dX2_is_42
  · refine lv_aload_n hx hb dX2_is_5 rfl (lv_at hl 0 rfl) ?_
    refine lv_iload_n hx hb dX2_is_6 rfl (lv_at hl 2 rfl) ?_
    refine gcalli (As := [.int st]) (rest := []) ⟨hx, hb, hml, hown, hts⟩ (metX2_conflictFree l dC dI cZ bd s.heap.size n (nI N) th st) (cw_X2_conflictFree hts ⟨Nat.le_of_ble_eq_true rfl, Nat.le_of_ble_eq_true rfl⟩) hK hP hD hS hA (ci := 1) (q0 := 0) rfl rfl hl.1 rfl (Nat.le_of_ble_eq_true rfl) dX2_is_7 ⟨Nat.le_of_ble_eq_true rfl, Nat.le_of_ble_eq_true rfl⟩ (fun rhc10 u H locs hc10 hP hD hS => ?_)
    refine lv_if_eq (tgt := 31) hx hb dX2_is_10 (by decide) (fun c11 => ?_) (fun c11 => ?_)
    · refine lv_iconst (v := 0) hx hb dX2_is_31 (by decide) ?_
      exact gretz hx hb hr hlocks rfl () (by exact (bI_f (fun h => by unfold m_is at h; rw [if_pos c1] at h; exact bI_z hc10 c11 h.1)).symm) hP hD hS dX2_is_32
    · refine lv_iload_n hx hb dX2_is_13 rfl (lv_at hl 2 rfl) ?_
      refine lv_aload_n hx hb dX2_is_14 rfl (lv_at hl 0 rfl) ?_
      refine lv_iload_n hx hb dX2_is_15 rfl (lv_at hl 2 rfl) ?_
      refine gcalli (As := [.int st]) (rest := [.int st]) ⟨hx, hb, hml, hown, hts⟩ (metX2_attacked l dC dI cZ bd H.size n (nI N) th st) (cw_X2_attacked hts ⟨Nat.le_of_ble_eq_true rfl, Nat.le_of_ble_eq_true rfl⟩) hK hP hD hS hA (ci := 1) (q0 := 0) rfl rfl hl.1 rfl (Nat.le_of_ble_eq_true rfl) dX2_is_16 ⟨Nat.le_of_ble_eq_true rfl, Nat.le_of_ble_eq_true rfl⟩ (fun rha12 u H locs ha12 hP hD hS => ?_)
      refine lv_ior hx hb dX2_is_19 ?_
      refine lv_aload_n hx hb dX2_is_20 rfl (lv_at hl 0 rfl) ?_
      refine gX2_al hx hb hts hown hK hP dX2_is_21 ?_
      refine lv_icmp_ne (tgt := 31) hx hb dX2_is_24 (by decide) (fun c13 => ?_) (fun c13 => ?_)
      · refine lv_iconst (v := 0) hx hb dX2_is_31 (by decide) ?_
        exact gretz hx hb hr hlocks rfl () (by exact (bI_f (fun h => by unfold m_is at h; rw [if_pos c1] at h; exact c13 (by rw [ha12]; exact h.2))).symm) hP hD hS dX2_is_32
      · refine lv_iconst (v := 1) hx hb dX2_is_27 (by decide) ?_
        refine lv_goto (tgt := 32) hx hb dX2_is_28 (by decide) ?_
        exact gretz hx hb hr hlocks rfl () (by exact (bI_t (show m_is th N kind st from by unfold m_is; rw [if_pos c1]; exact ⟨bI_n hc10 c11, by unfold m_rg; rw [← ha12]; exact c13⟩)).symm) hP hD hS dX2_is_32
end
section
abbrev rm_X2_count : Room := { frames := 6, cells := 0, slots := 0, locals := 136 }
set_option maxHeartbeats 4000000 in
set_option maxRecDepth 100000 in
theorem metX2_count (l : Launch) (dC : Nat → ClassId) (dI : Nat → Nat → Nat) (cZ : ClassId) (bd : Nat → Nat) (sz : Nat) (n : Int32) (th : Nat → Int32) (N : Nat) (kind : Int32) (hN : N < 256) : Met l yX2_count (ws_ yX2_count cX2_count 4 (some .int)) rm_X2_count (gP (dC, dI) (tyM cZ) (wM cZ bd n (nI N) th) sz [.ref (bd 0), .int kind]) (gQi (dC, dI) (fun (r : Int32) (_ : Unit) => (¬ kindP kind ∧ r = -1) ∨ (kindP kind ∧ r = nI (g_cnt (mP th N kind) (N + 1)))) (wM cZ bd n (nI N) th) (fun _ => (wM cZ bd n (nI N) th)) sz) 0 0 (va_A (wM cZ bd n (nI N) th) sz) := by
  refine gstart (own := RX2) (by decide) rfl (Nat.le_of_ble_eq_true rfl) ?_
  intro p e s m below meth c hx hb hr hlocks hml hown hts hsz hP hK hD hA hnm ls hl
  have hS : va_S (va_A (wM cZ bd n (nI N) th) sz) s.heap s.heap [] := va_S.rf
  have hl : lv_has ls 4 [(0, .ref (bd 0)), (1, .int kind)] := hl
  refine lv_aload_n hx hb dX2_count_0 rfl (lv_at hl 0 rfl) ?_
  refine lv_iload_n hx hb dX2_count_1 rfl (lv_at hl 1 rfl) ?_
  refine gcalli (As := [.int kind]) (rest := []) ⟨hx, hb, hml, hown, hts⟩ (metX2_isKind l dC dI cZ bd s.heap.size n (nI N) th kind) (cw_X2_isKind hts ⟨Nat.le_of_ble_eq_true rfl, Nat.le_of_ble_eq_true rfl⟩) hK hP hD hS hA (ci := 1) (q0 := 0) rfl rfl hl.1 rfl (Nat.le_of_ble_eq_true rfl) dX2_count_2 ⟨Nat.le_of_ble_eq_true rfl, Nat.le_of_ble_eq_true rfl⟩ (fun rhk_1 u H locs hk_1 hP hD hS => ?_)
  refine lv_if_ne (tgt := 10) hx hb dX2_count_5 (by decide) (fun c2 => ?_) (fun c2 => ?_)
  · refine lv_iconst (v := 0) hx hb dX2_count_10 (by decide) ?_
    refine lv_istore_n (lv' := [(2, .int 0), (0, .ref (bd 0)), (1, .int kind)]) hx hb dX2_count_11 rfl hl (by decide) rfl (fun ls hl => ?_)
    refine lv_iconst (v := 0) hx hb dX2_count_12 (by decide) ?_
    refine lv_istore_n (lv' := [(3, .int 0), (2, .int 0), (0, .ref (bd 0)), (1, .int kind)]) hx hb dX2_count_13 rfl hl (by decide) rfl (fun ls hl => ?_)
    have loop14 : ∀ (fl : Nat) (k : Nat) (x2 : Int32), k ≤ N + 1 → N + 1 < k + fl → x2 = nI (g_cnt (mP th N kind) k) → ∀ (H : Heap) (locs : List Loc), va_P (dC, dI) cl2 (wM cZ bd n (nI N) th) H → va_D (va_A (wM cZ bd n (nI N) th) sz) (wM cZ bd n (nI N) th) → va_S (va_A (wM cZ bd n (nI N) th) sz) s.heap H locs → ∀ (ls : Array Slot), lv_has ls 4 [(0, .ref (bd 0)), (1, .int kind), (2, .int x2), (3, .int (nI k))] → W p l e rm_X2_count s m ([.ref (bd 0), .int kind] : List Value).toArray below meth c H locs 0 0 (MQ below (gQi (dC, dI) (fun (r : Int32) (_ : Unit) => (¬ kindP kind ∧ r = -1) ∨ (kindP kind ∧ r = nI (g_cnt (mP th N kind) (N + 1)))) (wM cZ bd n (nI N) th) (fun _ => (wM cZ bd n (nI N) th)) sz) ([.ref (bd 0), .int kind] : List Value).toArray s 0 0 (va_A (wM cZ bd n (nI N) th) sz)) (F0 m 14 ls []) := by
      intro fl
      induction fl with
      | zero =>
        intro k x2 hk hf e2
        exact absurd hf (by omega)
      | succ fl ih14 =>
        intro k x2 hk hf e2 H locs hP hD hS ls hl
        refine lv_iload_n hx hb dX2_count_14 rfl (lv_at hl 3 rfl) ?_
        refine lv_aload_n hx hb dX2_count_15 rfl (lv_at hl 0 rfl) ?_
        refine gX2_al hx hb hts hown hK hP dX2_count_16 ?_
        refine lv_icmp_gt (tgt := 40) hx hb dX2_count_19 (by decide) (fun c3 => ?_) (fun c3 => ?_)
        · refine lv_iload_n hx hb dX2_count_40 rfl (lv_at hl 2 rfl) ?_
          exact greti hx hb hr hlocks () (by exact Or.inr ⟨bI_n hk_1 c2, by rw [e2, kgt (by omega) hk c3]⟩) hP hD hS dX2_count_41
        · have hle : k ≤ N := kle (by omega) c3
          refine lv_aload_n hx hb dX2_count_22 rfl (lv_at hl 0 rfl) ?_
          refine lv_iload_n hx hb dX2_count_23 rfl (lv_at hl 1 rfl) ?_
          refine lv_iload_n hx hb dX2_count_24 rfl (lv_at hl 3 rfl) ?_
          refine gcalli (As := [.int kind, .int (nI k)]) (rest := []) ⟨hx, hb, hml, hown, hts⟩ (metX2_is l dC dI cZ bd H.size n th N kind (nI k) hN) (cw_X2_is hts ⟨Nat.le_of_ble_eq_true rfl, Nat.le_of_ble_eq_true rfl⟩) hK hP hD hS hA (ci := 1) (q0 := 0) rfl rfl hl.1 rfl (Nat.le_of_ble_eq_true rfl) dX2_count_25 ⟨Nat.le_of_ble_eq_true rfl, Nat.le_of_ble_eq_true rfl⟩ (fun rhi_4 u H locs hi_4 hP hD hS => ?_)
          have hi_4 : rhi_4 = bI (mP th N kind k) := hi_4
          refine lv_if_eq (tgt := 34) hx hb dX2_count_28 (by decide) (fun c5 => ?_) (fun c5 => ?_)
          · refine lv_iinc (v := (nI (k + 1))) (lv' := [(3, .int (nI (k + 1))), (0, .ref (bd 0)), (1, .int kind), (2, .int x2)]) hx hb dX2_count_34 hl (k := 3) rfl (nI_1 k) (by decide) rfl (fun ls hl => ?_)
            refine lv_goto (tgt := 14) hx hb dX2_count_37 (by decide) ?_
            exact ih14 (k + 1) x2 (by omega) (by omega) (by rw [g_cnt, cIf_f (bI_z hi_4 c5), e2]) H locs hP hD hS ls (lv_sub hl [1, 2, 3, 0] rfl)
          · refine lv_iinc (v := (x2 + 1)) (lv' := [(2, .int (x2 + 1)), (0, .ref (bd 0)), (1, .int kind), (3, .int (nI k))]) hx hb dX2_count_31 hl (k := 2) rfl rfl (by decide) rfl (fun ls hl => ?_)
            refine lv_iinc (v := (nI (k + 1))) (lv' := [(3, .int (nI (k + 1))), (2, .int (x2 + 1)), (0, .ref (bd 0)), (1, .int kind)]) hx hb dX2_count_34 hl (k := 3) rfl (nI_1 k) (by decide) rfl (fun ls hl => ?_)
            refine lv_goto (tgt := 14) hx hb dX2_count_37 (by decide) ?_
            exact ih14 (k + 1) (x2 + 1) (by omega) (by omega) (by rw [g_cnt, cIf_t (bI_n hi_4 c5), e2]; exact nI_1 _) H locs hP hD hS ls (lv_sub hl [2, 3, 1, 0] rfl)
    exact loop14 (N + 2) 0 0 (by omega) (by omega) rfl H locs hP hD hS ls (lv_sub hl [2, 3, 1, 0] rfl)
  · refine lv_iconst (v := (-1)) hx hb dX2_count_8 (by decide) ?_
    exact greti hx hb hr hlocks () (by exact Or.inl ⟨bI_z hk_1 c2, rfl⟩) hP hD hS dX2_count_9

abbrev rm_X2_extension : Room := { frames := 6, cells := 0, slots := 0, locals := 136 }
set_option maxHeartbeats 4000000 in
set_option maxRecDepth 100000 in
theorem metX2_extension (l : Launch) (dC : Nat → ClassId) (dI : Nat → Nat → Nat) (cZ : ClassId) (bd : Nat → Nat) (sz : Nat) (n : Int32) (th : Nat → Int32) (N : Nat) (kind : Int32) (q : Int32) (hN : N < 256) : Met l yX2_extension (ws_ yX2_extension cX2_extension 5 (some .int)) rm_X2_extension (gP (dC, dI) (tyM cZ) (wM cZ bd n (nI N) th) sz [.ref (bd 0), .int kind, .int q]) (gQi (dC, dI) (fun (r : Int32) (_ : Unit) => (¬ kindP kind ∧ r = -1) ∨ (kindP kind ∧ g_ext (mP th N kind) (N + 1) q r)) (wM cZ bd n (nI N) th) (fun _ => (wM cZ bd n (nI N) th)) sz) 0 0 (va_A (wM cZ bd n (nI N) th) sz) := by
  refine gstart (own := RX2) (by decide) rfl (Nat.le_of_ble_eq_true rfl) ?_
  intro p e s m below meth c hx hb hr hlocks hml hown hts hsz hP hK hD hA hnm ls hl
  have hS : va_S (va_A (wM cZ bd n (nI N) th) sz) s.heap s.heap [] := va_S.rf
  have hl : lv_has ls 5 [(0, .ref (bd 0)), (1, .int kind), (2, .int q)] := hl
  refine lv_aload_n hx hb dX2_extension_0 rfl (lv_at hl 0 rfl) ?_
  refine lv_iload_n hx hb dX2_extension_1 rfl (lv_at hl 1 rfl) ?_
  refine gcalli (As := [.int kind]) (rest := []) ⟨hx, hb, hml, hown, hts⟩ (metX2_isKind l dC dI cZ bd s.heap.size n (nI N) th kind) (cw_X2_isKind hts ⟨Nat.le_of_ble_eq_true rfl, Nat.le_of_ble_eq_true rfl⟩) hK hP hD hS hA (ci := 1) (q0 := 0) rfl rfl hl.1 rfl (Nat.le_of_ble_eq_true rfl) dX2_extension_2 ⟨Nat.le_of_ble_eq_true rfl, Nat.le_of_ble_eq_true rfl⟩ (fun rhk_1 u H locs hk_1 hP hD hS => ?_)
  refine lv_if_ne (tgt := 10) hx hb dX2_extension_5 (by decide) (fun c2 => ?_) (fun c2 => ?_)
  · refine lv_iconst (v := 0) hx hb dX2_extension_10 (by decide) ?_
    refine lv_istore_n (lv' := [(3, .int 0), (0, .ref (bd 0)), (1, .int kind), (2, .int q)]) hx hb dX2_extension_11 rfl hl (by decide) rfl (fun ls hl => ?_)
    refine lv_iconst (v := 0) hx hb dX2_extension_12 (by decide) ?_
    refine lv_istore (lv' := [(4, .int 0), (3, .int 0), (0, .ref (bd 0)), (1, .int kind), (2, .int q)]) hx hb dX2_extension_13 hl (by decide) rfl (fun ls hl => ?_)
    have loop15 : ∀ (fl : Nat) (k : Nat) (x3 : Int32), k ≤ N + 1 → N + 1 < k + fl → x3 = nI (g_cnt (mP th N kind) k) → (∀ j, j < k → (mP th N kind) j → ¬ nI (g_cnt (mP th N kind) j) = q) → ∀ (H : Heap) (locs : List Loc), va_P (dC, dI) cl2 (wM cZ bd n (nI N) th) H → va_D (va_A (wM cZ bd n (nI N) th) sz) (wM cZ bd n (nI N) th) → va_S (va_A (wM cZ bd n (nI N) th) sz) s.heap H locs → ∀ (ls : Array Slot), lv_has ls 5 [(0, .ref (bd 0)), (1, .int kind), (2, .int q), (3, .int x3), (4, .int (nI k))] → W p l e rm_X2_extension s m ([.ref (bd 0), .int kind, .int q] : List Value).toArray below meth c H locs 0 0 (MQ below (gQi (dC, dI) (fun (r : Int32) (_ : Unit) => (¬ kindP kind ∧ r = -1) ∨ (kindP kind ∧ g_ext (mP th N kind) (N + 1) q r)) (wM cZ bd n (nI N) th) (fun _ => (wM cZ bd n (nI N) th)) sz) ([.ref (bd 0), .int kind, .int q] : List Value).toArray s 0 0 (va_A (wM cZ bd n (nI N) th) sz)) (F0 m 15 ls []) := by
      intro fl
      induction fl with
      | zero =>
        intro k x3 hk hf e3 hI
        exact absurd hf (by omega)
      | succ fl ih15 =>
        intro k x3 hk hf e3 hI H locs hP hD hS ls hl
        refine lv_iload hx hb dX2_extension_15 (lv_at hl 4 rfl) ?_
        refine lv_aload_n hx hb dX2_extension_17 rfl (lv_at hl 0 rfl) ?_
        refine gX2_al hx hb hts hown hK hP dX2_extension_18 ?_
        refine lv_icmp_gt (tgt := 51) hx hb dX2_extension_21 (by decide) (fun c3 => ?_) (fun c3 => ?_)
        · refine lv_bipush (v := (-2)) hx hb dX2_extension_51 (by decide) ?_
          exact greti hx hb hr hlocks () (by exact Or.inr ⟨bI_n hk_1 c2, Or.inr ⟨rfl, by have h := kgt (by omega) hk c3; rw [h] at hI; exact hI⟩⟩) hP hD hS dX2_extension_53
        · have hle : k ≤ N := kle (by omega) c3
          refine lv_aload_n hx hb dX2_extension_24 rfl (lv_at hl 0 rfl) ?_
          refine lv_iload_n hx hb dX2_extension_25 rfl (lv_at hl 1 rfl) ?_
          refine lv_iload hx hb dX2_extension_26 (lv_at hl 4 rfl) ?_
          refine gcalli (As := [.int kind, .int (nI k)]) (rest := []) ⟨hx, hb, hml, hown, hts⟩ (metX2_is l dC dI cZ bd H.size n th N kind (nI k) hN) (cw_X2_is hts ⟨Nat.le_of_ble_eq_true rfl, Nat.le_of_ble_eq_true rfl⟩) hK hP hD hS hA (ci := 1) (q0 := 0) rfl rfl hl.1 rfl (Nat.le_of_ble_eq_true rfl) dX2_extension_28 ⟨Nat.le_of_ble_eq_true rfl, Nat.le_of_ble_eq_true rfl⟩ (fun rhi_4 u H locs hi_4 hP hD hS => ?_)
          have hi_4 : rhi_4 = bI (mP th N kind k) := hi_4
          refine lv_if_eq (tgt := 45) hx hb dX2_extension_31 (by decide) (fun c5 => ?_) (fun c5 => ?_)
          · refine lv_iinc (v := (nI (k + 1))) (lv' := [(4, .int (nI (k + 1))), (0, .ref (bd 0)), (1, .int kind), (2, .int q), (3, .int x3)]) hx hb dX2_extension_45 hl (k := 4) rfl (nI_1 k) (by decide) rfl (fun ls hl => ?_)
            refine lv_goto (tgt := 15) hx hb dX2_extension_48 (by decide) ?_
            exact ih15 (k + 1) x3 (by omega) (by omega) (by rw [g_cnt, cIf_f (bI_z hi_4 c5), e3]) (lt_s hI (fun h => absurd h (bI_z hi_4 c5))) H locs hP hD hS ls (lv_sub hl [1, 2, 3, 4, 0] rfl)
          · refine lv_iload_n hx hb dX2_extension_34 rfl (lv_at hl 3 rfl) ?_
            refine lv_iload_n hx hb dX2_extension_35 rfl (lv_at hl 2 rfl) ?_
            refine lv_icmp_ne (tgt := 42) hx hb dX2_extension_36 (by decide) (fun c6 => ?_) (fun c6 => ?_)
            · refine lv_iinc (v := (x3 + 1)) (lv' := [(3, .int (x3 + 1)), (0, .ref (bd 0)), (1, .int kind), (2, .int q), (4, .int (nI k))]) hx hb dX2_extension_42 hl (k := 3) rfl rfl (by decide) rfl (fun ls hl => ?_)
              refine lv_iinc (v := (nI (k + 1))) (lv' := [(4, .int (nI (k + 1))), (3, .int (x3 + 1)), (0, .ref (bd 0)), (1, .int kind), (2, .int q)]) hx hb dX2_extension_45 hl (k := 4) rfl (nI_1 k) (by decide) rfl (fun ls hl => ?_)
              refine lv_goto (tgt := 15) hx hb dX2_extension_48 (by decide) ?_
              exact ih15 (k + 1) (x3 + 1) (by omega) (by omega) (by rw [g_cnt, cIf_t (bI_n hi_4 c5), e3]; exact nI_1 _) (lt_s hI (fun _ h => c6 (by rw [e3]; exact h))) H locs hP hD hS ls (lv_sub hl [2, 3, 4, 1, 0] rfl)
            · refine lv_iload hx hb dX2_extension_39 (lv_at hl 4 rfl) ?_
              exact greti hx hb hr hlocks () (by exact Or.inr ⟨bI_n hk_1 c2, Or.inl ⟨k, by omega, bI_n hi_4 c5, by rw [← e3]; exact c6, rfl⟩⟩) hP hD hS dX2_extension_41
    exact loop15 (N + 2) 0 0 (by omega) (by omega) rfl lt_0 H locs hP hD hS ls (lv_sub hl [2, 3, 4, 1, 0] rfl)
  · refine lv_iconst (v := (-1)) hx hb dX2_extension_8 (by decide) ?_
    exact greti hx hb hr hlocks () (by exact Or.inl ⟨bI_z hk_1 c2, rfl⟩) hP hD hS dX2_extension_9

abbrev rm_X2_inSome : Room := { frames := 6, cells := 0, slots := 0, locals := 136 }
set_option maxHeartbeats 4000000 in
set_option maxRecDepth 100000 in
theorem metX2_inSome (l : Launch) (dC : Nat → ClassId) (dI : Nat → Nat → Nat) (cZ : ClassId) (bd : Nat → Nat) (sz : Nat) (n : Int32) (th : Nat → Int32) (N : Nat) (kind : Int32) (hN : N < 256) : Met l yX2_inSome (ws_ yX2_inSome cX2_inSome 4 (some .int)) rm_X2_inSome (gP (dC, dI) (tyM cZ) (wM cZ bd n (nI N) th) sz [.ref (bd 0), .int kind]) (gQi (dC, dI) (fun (r : Int32) (_ : Unit) => (¬ kindP kind ∧ r = -1) ∨ (kindP kind ∧ r = g_or (mP th N kind) (N + 1))) (wM cZ bd n (nI N) th) (fun _ => (wM cZ bd n (nI N) th)) sz) 0 0 (va_A (wM cZ bd n (nI N) th) sz) := by
  refine gstart (own := RX2) (by decide) rfl (Nat.le_of_ble_eq_true rfl) ?_
  intro p e s m below meth c hx hb hr hlocks hml hown hts hsz hP hK hD hA hnm ls hl
  have hS : va_S (va_A (wM cZ bd n (nI N) th) sz) s.heap s.heap [] := va_S.rf
  have hl : lv_has ls 4 [(0, .ref (bd 0)), (1, .int kind)] := hl
  refine lv_aload_n hx hb dX2_inSome_0 rfl (lv_at hl 0 rfl) ?_
  refine lv_iload_n hx hb dX2_inSome_1 rfl (lv_at hl 1 rfl) ?_
  refine gcalli (As := [.int kind]) (rest := []) ⟨hx, hb, hml, hown, hts⟩ (metX2_isKind l dC dI cZ bd s.heap.size n (nI N) th kind) (cw_X2_isKind hts ⟨Nat.le_of_ble_eq_true rfl, Nat.le_of_ble_eq_true rfl⟩) hK hP hD hS hA (ci := 1) (q0 := 0) rfl rfl hl.1 rfl (Nat.le_of_ble_eq_true rfl) dX2_inSome_2 ⟨Nat.le_of_ble_eq_true rfl, Nat.le_of_ble_eq_true rfl⟩ (fun rhk_1 u H locs hk_1 hP hD hS => ?_)
  refine lv_if_ne (tgt := 10) hx hb dX2_inSome_5 (by decide) (fun c2 => ?_) (fun c2 => ?_)
  · refine lv_iconst (v := 0) hx hb dX2_inSome_10 (by decide) ?_
    refine lv_istore_n (lv' := [(2, .int 0), (0, .ref (bd 0)), (1, .int kind)]) hx hb dX2_inSome_11 rfl hl (by decide) rfl (fun ls hl => ?_)
    refine lv_iconst (v := 0) hx hb dX2_inSome_12 (by decide) ?_
    refine lv_istore_n (lv' := [(3, .int 0), (2, .int 0), (0, .ref (bd 0)), (1, .int kind)]) hx hb dX2_inSome_13 rfl hl (by decide) rfl (fun ls hl => ?_)
    have loop14 : ∀ (fl : Nat) (k : Nat) (x2 : Int32), k ≤ N + 1 → N + 1 < k + fl → x2 = g_or (mP th N kind) k → ∀ (H : Heap) (locs : List Loc), va_P (dC, dI) cl2 (wM cZ bd n (nI N) th) H → va_D (va_A (wM cZ bd n (nI N) th) sz) (wM cZ bd n (nI N) th) → va_S (va_A (wM cZ bd n (nI N) th) sz) s.heap H locs → ∀ (ls : Array Slot), lv_has ls 4 [(0, .ref (bd 0)), (1, .int kind), (2, .int x2), (3, .int (nI k))] → W p l e rm_X2_inSome s m ([.ref (bd 0), .int kind] : List Value).toArray below meth c H locs 0 0 (MQ below (gQi (dC, dI) (fun (r : Int32) (_ : Unit) => (¬ kindP kind ∧ r = -1) ∨ (kindP kind ∧ r = g_or (mP th N kind) (N + 1))) (wM cZ bd n (nI N) th) (fun _ => (wM cZ bd n (nI N) th)) sz) ([.ref (bd 0), .int kind] : List Value).toArray s 0 0 (va_A (wM cZ bd n (nI N) th) sz)) (F0 m 14 ls []) := by
      intro fl
      induction fl with
      | zero =>
        intro k x2 hk hf e2
        exact absurd hf (by omega)
      | succ fl ih14 =>
        intro k x2 hk hf e2 H locs hP hD hS ls hl
        refine lv_iload_n hx hb dX2_inSome_14 rfl (lv_at hl 3 rfl) ?_
        refine lv_aload_n hx hb dX2_inSome_15 rfl (lv_at hl 0 rfl) ?_
        refine gX2_al hx hb hts hown hK hP dX2_inSome_16 ?_
        refine lv_icmp_gt (tgt := 41) hx hb dX2_inSome_19 (by decide) (fun c3 => ?_) (fun c3 => ?_)
        · refine lv_iload_n hx hb dX2_inSome_41 rfl (lv_at hl 2 rfl) ?_
          exact greti hx hb hr hlocks () (by exact Or.inr ⟨bI_n hk_1 c2, by rw [e2, kgt (by omega) hk c3]⟩) hP hD hS dX2_inSome_42
        · have hle : k ≤ N := kle (by omega) c3
          refine lv_aload_n hx hb dX2_inSome_22 rfl (lv_at hl 0 rfl) ?_
          refine lv_iload_n hx hb dX2_inSome_23 rfl (lv_at hl 1 rfl) ?_
          refine lv_iload_n hx hb dX2_inSome_24 rfl (lv_at hl 3 rfl) ?_
          refine gcalli (As := [.int kind, .int (nI k)]) (rest := []) ⟨hx, hb, hml, hown, hts⟩ (metX2_is l dC dI cZ bd H.size n th N kind (nI k) hN) (cw_X2_is hts ⟨Nat.le_of_ble_eq_true rfl, Nat.le_of_ble_eq_true rfl⟩) hK hP hD hS hA (ci := 1) (q0 := 0) rfl rfl hl.1 rfl (Nat.le_of_ble_eq_true rfl) dX2_inSome_25 ⟨Nat.le_of_ble_eq_true rfl, Nat.le_of_ble_eq_true rfl⟩ (fun rhi_4 u H locs hi_4 hP hD hS => ?_)
          have hi_4 : rhi_4 = bI (mP th N kind k) := hi_4
          refine lv_if_eq (tgt := 35) hx hb dX2_inSome_28 (by decide) (fun c5 => ?_) (fun c5 => ?_)
          · refine lv_iinc (v := (nI (k + 1))) (lv' := [(3, .int (nI (k + 1))), (0, .ref (bd 0)), (1, .int kind), (2, .int x2)]) hx hb dX2_inSome_35 hl (k := 3) rfl (nI_1 k) (by decide) rfl (fun ls hl => ?_)
            refine lv_goto (tgt := 14) hx hb dX2_inSome_38 (by decide) ?_
            exact ih14 (k + 1) x2 (by omega) (by omega) (by rw [g_or, cIf_f (bI_z hi_4 c5), e2]) H locs hP hD hS ls (lv_sub hl [1, 2, 3, 0] rfl)
          · refine lv_iload_n hx hb dX2_inSome_31 rfl (lv_at hl 2 rfl) ?_
            refine lv_iload_n hx hb dX2_inSome_32 rfl (lv_at hl 3 rfl) ?_
            refine lv_ior hx hb dX2_inSome_33 ?_
            refine lv_istore_n (lv' := [(2, .int (x2 ||| (nI k))), (0, .ref (bd 0)), (1, .int kind), (3, .int (nI k))]) hx hb dX2_inSome_34 rfl hl (by decide) rfl (fun ls hl => ?_)
            refine lv_iinc (v := (nI (k + 1))) (lv' := [(3, .int (nI (k + 1))), (2, .int (x2 ||| (nI k))), (0, .ref (bd 0)), (1, .int kind)]) hx hb dX2_inSome_35 hl (k := 3) rfl (nI_1 k) (by decide) rfl (fun ls hl => ?_)
            refine lv_goto (tgt := 14) hx hb dX2_inSome_38 (by decide) ?_
            exact ih14 (k + 1) (x2 ||| (nI k)) (by omega) (by omega) (by rw [g_or, cIf_t (bI_n hi_4 c5), e2]) H locs hP hD hS ls (lv_sub hl [2, 3, 1, 0] rfl)
    exact loop14 (N + 2) 0 0 (by omega) (by omega) rfl H locs hP hD hS ls (lv_sub hl [2, 3, 1, 0] rfl)
  · refine lv_iconst (v := (-1)) hx hb dX2_inSome_8 (by decide) ?_
    exact greti hx hb hr hlocks () (by exact Or.inl ⟨bI_z hk_1 c2, rfl⟩) hP hD hS dX2_inSome_9

abbrev rm_X2_inEvery : Room := { frames := 6, cells := 0, slots := 0, locals := 136 }
set_option maxHeartbeats 4000000 in
set_option maxRecDepth 100000 in
theorem metX2_inEvery (l : Launch) (dC : Nat → ClassId) (dI : Nat → Nat → Nat) (cZ : ClassId) (bd : Nat → Nat) (sz : Nat) (n : Int32) (th : Nat → Int32) (N : Nat) (kind : Int32) (hN : N < 256) : Met l yX2_inEvery (ws_ yX2_inEvery cX2_inEvery 4 (some .int)) rm_X2_inEvery (gP (dC, dI) (tyM cZ) (wM cZ bd n (nI N) th) sz [.ref (bd 0), .int kind]) (gQi (dC, dI) (fun (r : Int32) (_ : Unit) => (¬ kindP kind ∧ r = -1) ∨ (kindP kind ∧ r = g_an (mP th N kind) (nI N) (N + 1))) (wM cZ bd n (nI N) th) (fun _ => (wM cZ bd n (nI N) th)) sz) 0 0 (va_A (wM cZ bd n (nI N) th) sz) := by
  refine gstart (own := RX2) (by decide) rfl (Nat.le_of_ble_eq_true rfl) ?_
  intro p e s m below meth c hx hb hr hlocks hml hown hts hsz hP hK hD hA hnm ls hl
  have hS : va_S (va_A (wM cZ bd n (nI N) th) sz) s.heap s.heap [] := va_S.rf
  have hl : lv_has ls 4 [(0, .ref (bd 0)), (1, .int kind)] := hl
  refine lv_aload_n hx hb dX2_inEvery_0 rfl (lv_at hl 0 rfl) ?_
  refine lv_iload_n hx hb dX2_inEvery_1 rfl (lv_at hl 1 rfl) ?_
  refine gcalli (As := [.int kind]) (rest := []) ⟨hx, hb, hml, hown, hts⟩ (metX2_isKind l dC dI cZ bd s.heap.size n (nI N) th kind) (cw_X2_isKind hts ⟨Nat.le_of_ble_eq_true rfl, Nat.le_of_ble_eq_true rfl⟩) hK hP hD hS hA (ci := 1) (q0 := 0) rfl rfl hl.1 rfl (Nat.le_of_ble_eq_true rfl) dX2_inEvery_2 ⟨Nat.le_of_ble_eq_true rfl, Nat.le_of_ble_eq_true rfl⟩ (fun rhk_1 u H locs hk_1 hP hD hS => ?_)
  refine lv_if_ne (tgt := 10) hx hb dX2_inEvery_5 (by decide) (fun c2 => ?_) (fun c2 => ?_)
  · refine lv_aload_n hx hb dX2_inEvery_10 rfl (lv_at hl 0 rfl) ?_
    refine gX2_al hx hb hts hown hK hP dX2_inEvery_11 ?_
    refine lv_istore_n (lv' := [(2, .int (nI N)), (0, .ref (bd 0)), (1, .int kind)]) hx hb dX2_inEvery_14 rfl hl (by decide) rfl (fun ls hl => ?_)
    refine lv_iconst (v := 0) hx hb dX2_inEvery_15 (by decide) ?_
    refine lv_istore_n (lv' := [(3, .int 0), (2, .int (nI N)), (0, .ref (bd 0)), (1, .int kind)]) hx hb dX2_inEvery_16 rfl hl (by decide) rfl (fun ls hl => ?_)
    have loop17 : ∀ (fl : Nat) (k : Nat) (x2 : Int32), k ≤ N + 1 → N + 1 < k + fl → x2 = g_an (mP th N kind) (nI N) k → ∀ (H : Heap) (locs : List Loc), va_P (dC, dI) cl2 (wM cZ bd n (nI N) th) H → va_D (va_A (wM cZ bd n (nI N) th) sz) (wM cZ bd n (nI N) th) → va_S (va_A (wM cZ bd n (nI N) th) sz) s.heap H locs → ∀ (ls : Array Slot), lv_has ls 4 [(0, .ref (bd 0)), (1, .int kind), (2, .int x2), (3, .int (nI k))] → W p l e rm_X2_inEvery s m ([.ref (bd 0), .int kind] : List Value).toArray below meth c H locs 0 0 (MQ below (gQi (dC, dI) (fun (r : Int32) (_ : Unit) => (¬ kindP kind ∧ r = -1) ∨ (kindP kind ∧ r = g_an (mP th N kind) (nI N) (N + 1))) (wM cZ bd n (nI N) th) (fun _ => (wM cZ bd n (nI N) th)) sz) ([.ref (bd 0), .int kind] : List Value).toArray s 0 0 (va_A (wM cZ bd n (nI N) th) sz)) (F0 m 17 ls []) := by
      intro fl
      induction fl with
      | zero =>
        intro k x2 hk hf e2
        exact absurd hf (by omega)
      | succ fl ih17 =>
        intro k x2 hk hf e2 H locs hP hD hS ls hl
        refine lv_iload_n hx hb dX2_inEvery_17 rfl (lv_at hl 3 rfl) ?_
        refine lv_aload_n hx hb dX2_inEvery_18 rfl (lv_at hl 0 rfl) ?_
        refine gX2_al hx hb hts hown hK hP dX2_inEvery_19 ?_
        refine lv_icmp_gt (tgt := 44) hx hb dX2_inEvery_22 (by decide) (fun c3 => ?_) (fun c3 => ?_)
        · refine lv_iload_n hx hb dX2_inEvery_44 rfl (lv_at hl 2 rfl) ?_
          exact greti hx hb hr hlocks () (by exact Or.inr ⟨bI_n hk_1 c2, by rw [e2, kgt (by omega) hk c3]⟩) hP hD hS dX2_inEvery_45
        · have hle : k ≤ N := kle (by omega) c3
          refine lv_aload_n hx hb dX2_inEvery_25 rfl (lv_at hl 0 rfl) ?_
          refine lv_iload_n hx hb dX2_inEvery_26 rfl (lv_at hl 1 rfl) ?_
          refine lv_iload_n hx hb dX2_inEvery_27 rfl (lv_at hl 3 rfl) ?_
          refine gcalli (As := [.int kind, .int (nI k)]) (rest := []) ⟨hx, hb, hml, hown, hts⟩ (metX2_is l dC dI cZ bd H.size n th N kind (nI k) hN) (cw_X2_is hts ⟨Nat.le_of_ble_eq_true rfl, Nat.le_of_ble_eq_true rfl⟩) hK hP hD hS hA (ci := 1) (q0 := 0) rfl rfl hl.1 rfl (Nat.le_of_ble_eq_true rfl) dX2_inEvery_28 ⟨Nat.le_of_ble_eq_true rfl, Nat.le_of_ble_eq_true rfl⟩ (fun rhi_4 u H locs hi_4 hP hD hS => ?_)
          have hi_4 : rhi_4 = bI (mP th N kind k) := hi_4
          refine lv_if_eq (tgt := 38) hx hb dX2_inEvery_31 (by decide) (fun c5 => ?_) (fun c5 => ?_)
          · refine lv_iinc (v := (nI (k + 1))) (lv' := [(3, .int (nI (k + 1))), (0, .ref (bd 0)), (1, .int kind), (2, .int x2)]) hx hb dX2_inEvery_38 hl (k := 3) rfl (nI_1 k) (by decide) rfl (fun ls hl => ?_)
            refine lv_goto (tgt := 17) hx hb dX2_inEvery_41 (by decide) ?_
            exact ih17 (k + 1) x2 (by omega) (by omega) (by rw [g_an, cIf_f (bI_z hi_4 c5), e2]) H locs hP hD hS ls (lv_sub hl [1, 2, 3, 0] rfl)
          · refine lv_iload_n hx hb dX2_inEvery_34 rfl (lv_at hl 2 rfl) ?_
            refine lv_iload_n hx hb dX2_inEvery_35 rfl (lv_at hl 3 rfl) ?_
            refine lv_iand hx hb dX2_inEvery_36 ?_
            refine lv_istore_n (lv' := [(2, .int (x2 &&& (nI k))), (0, .ref (bd 0)), (1, .int kind), (3, .int (nI k))]) hx hb dX2_inEvery_37 rfl hl (by decide) rfl (fun ls hl => ?_)
            refine lv_iinc (v := (nI (k + 1))) (lv' := [(3, .int (nI (k + 1))), (2, .int (x2 &&& (nI k))), (0, .ref (bd 0)), (1, .int kind)]) hx hb dX2_inEvery_38 hl (k := 3) rfl (nI_1 k) (by decide) rfl (fun ls hl => ?_)
            refine lv_goto (tgt := 17) hx hb dX2_inEvery_41 (by decide) ?_
            exact ih17 (k + 1) (x2 &&& (nI k)) (by omega) (by omega) (by rw [g_an, cIf_t (bI_n hi_4 c5), e2]) H locs hP hD hS ls (lv_sub hl [2, 3, 1, 0] rfl)
    exact loop17 (N + 2) 0 (nI N) (by omega) (by omega) rfl H locs hP hD hS ls (lv_sub hl [2, 3, 1, 0] rfl)
  · refine lv_iconst (v := (-1)) hx hb dX2_inEvery_8 (by decide) ?_
    exact greti hx hb hr hlocks () (by exact Or.inl ⟨bI_z hk_1 c2, rfl⟩) hP hD hS dX2_inEvery_9

abbrev rm_X2_grounded : Room := { frames := 3, cells := 0, slots := 0, locals := 69 }
set_option maxHeartbeats 4000000 in
set_option maxRecDepth 100000 in
theorem metX2_grounded (l : Launch) (dC : Nat → ClassId) (dI : Nat → Nat → Nat) (cZ : ClassId) (bd : Nat → Nat) (sz : Nat) (n : Int32) (th : Nat → Int32) (N : Nat) (hN : N < 256) : Met l yX2_grounded (ws_ yX2_grounded cX2_grounded 4 (some .int)) rm_X2_grounded (gP (dC, dI) (tyM cZ) (wM cZ bd n (nI N) th) sz [.ref (bd 0)]) (gQi (dC, dI) (fun (r : Int32) (_ : Unit) => m_grd th N r) (wM cZ bd n (nI N) th) (fun _ => (wM cZ bd n (nI N) th)) sz) 0 0 (va_A (wM cZ bd n (nI N) th) sz) := by
  refine gstart (own := RX2) (by decide) rfl (Nat.le_of_ble_eq_true rfl) ?_
  intro p e s m below meth c hx hb hr hlocks hml hown hts hsz hP hK hD hA hnm ls hl
  have hS : va_S (va_A (wM cZ bd n (nI N) th) sz) s.heap s.heap [] := va_S.rf
  have hl : lv_has ls 4 [(0, .ref (bd 0))] := hl
  refine lv_iconst (v := 0) hx hb dX2_grounded_0 (by decide) ?_
  refine lv_istore_n (lv' := [(1, .int 0), (0, .ref (bd 0))]) hx hb dX2_grounded_1 rfl hl (by decide) rfl (fun ls hl => ?_)
  have loop2 : ∀ (fl : Nat) (k : Nat), k ≤ N + 1 → N + 1 < k + fl → (∀ j, j < k → ¬ m_lst th N (nI j)) → ∀ (H : Heap) (locs : List Loc), va_P (dC, dI) cl2 (wM cZ bd n (nI N) th) H → va_D (va_A (wM cZ bd n (nI N) th) sz) (wM cZ bd n (nI N) th) → va_S (va_A (wM cZ bd n (nI N) th) sz) s.heap H locs → ∀ (ls : Array Slot), lv_has ls 4 [(0, .ref (bd 0)), (1, .int (nI k))] → W p l e rm_X2_grounded s m ([.ref (bd 0)] : List Value).toArray below meth c H locs 0 0 (MQ below (gQi (dC, dI) (fun (r : Int32) (_ : Unit) => m_grd th N r) (wM cZ bd n (nI N) th) (fun _ => (wM cZ bd n (nI N) th)) sz) ([.ref (bd 0)] : List Value).toArray s 0 0 (va_A (wM cZ bd n (nI N) th) sz)) (F0 m 2 ls []) := by
    intro fl
    induction fl with
    | zero =>
      intro k hk hf hI
      exact absurd hf (by omega)
    | succ fl ih2 =>
      intro k hk hf hI H locs hP hD hS ls hl
      refine lv_iload_n hx hb dX2_grounded_2 rfl (lv_at hl 1 rfl) ?_
      refine lv_aload_n hx hb dX2_grounded_3 rfl (lv_at hl 0 rfl) ?_
      refine gX2_al hx hb hts hown hK hP dX2_grounded_4 ?_
      refine lv_icmp_gt (tgt := 82) hx hb dX2_grounded_7 (by decide) (fun c1 => ?_) (fun c1 => ?_)
      · refine lv_aload_n hx hb dX2_grounded_82 rfl (lv_at hl 0 rfl) ?_
        refine gX2_al hx hb hts hown hK hP dX2_grounded_83 ?_
        exact greti hx hb hr hlocks () (by exact Or.inr ⟨rfl, by have h := kgt (by omega) hk c1; rw [h] at hI; exact hI⟩) hP hD hS dX2_grounded_86
      · have hle : k ≤ N := kle (by omega) c1
        refine lv_aload_n hx hb dX2_grounded_10 rfl (lv_at hl 0 rfl) ?_
        refine lv_iload_n hx hb dX2_grounded_11 rfl (lv_at hl 1 rfl) ?_
        refine gcalli (As := [.int (nI k)]) (rest := []) ⟨hx, hb, hml, hown, hts⟩ (metX2_defended l dC dI cZ bd H.size n (nI N) th (nI k)) (cw_X2_defended hts ⟨Nat.le_of_ble_eq_true rfl, Nat.le_of_ble_eq_true rfl⟩) hK hP hD hS hA (ci := 1) (q0 := 0) rfl rfl hl.1 rfl (Nat.le_of_ble_eq_true rfl) dX2_grounded_12 ⟨Nat.le_of_ble_eq_true rfl, Nat.le_of_ble_eq_true rfl⟩ (fun rhd2 u H locs hd2 hP hD hS => ?_)
        refine lv_iload_n hx hb dX2_grounded_15 rfl (lv_at hl 1 rfl) ?_
        refine lv_iconst (v := (-1)) hx hb dX2_grounded_16 (by decide) ?_
        refine lv_ixor hx hb dX2_grounded_17 ?_
        refine lv_iand hx hb dX2_grounded_18 ?_
        refine lv_if_ne (tgt := 26) hx hb dX2_grounded_19 (by decide) (fun c3 => ?_) (fun c3 => ?_)
        · refine lv_iconst (v := 0) hx hb dX2_grounded_26 (by decide) ?_
          refine tope (y := bI (m_pre th (nI N) (nI k))) (by exact (bI_f (show ¬ m_pre th (nI N) (nI k) from by unfold m_pre; rw [← hd2]; exact c3)).symm) ?_
          refine lv_istore_n (lv' := [(2, .int (bI (m_pre th (nI N) (nI k)))), (0, .ref (bd 0)), (1, .int (nI k))]) hx hb dX2_grounded_27 rfl hl (by decide) rfl (fun ls hl => ?_)
          refine lv_iconst (v := 0) hx hb dX2_grounded_28 (by decide) ?_
          refine lv_istore_n (lv' := [(3, .int 0), (2, .int (bI (m_pre th (nI N) (nI k)))), (0, .ref (bd 0)), (1, .int (nI k))]) hx hb dX2_grounded_29 rfl hl (by decide) rfl (fun ls hl => ?_)
          have loop30 : ∀ (fl : Nat) (i : Nat) (x2 : Int32), i ≤ N + 1 → N + 1 < i + fl → x2 = bI (m_pre th (nI N) (nI k) ∧ ∀ j, j < i → m_pre th (nI N) (nI j) → (nI k &&& (nI j ^^^ (-1))) = 0) → ∀ (H : Heap) (locs : List Loc), va_P (dC, dI) cl2 (wM cZ bd n (nI N) th) H → va_D (va_A (wM cZ bd n (nI N) th) sz) (wM cZ bd n (nI N) th) → va_S (va_A (wM cZ bd n (nI N) th) sz) s.heap H locs → ∀ (ls : Array Slot), lv_has ls 4 [(0, .ref (bd 0)), (1, .int (nI k)), (2, .int x2), (3, .int (nI i))] → W p l e rm_X2_grounded s m ([.ref (bd 0)] : List Value).toArray below meth c H locs 0 0 (MQ below (gQi (dC, dI) (fun (r : Int32) (_ : Unit) => m_grd th N r) (wM cZ bd n (nI N) th) (fun _ => (wM cZ bd n (nI N) th)) sz) ([.ref (bd 0)] : List Value).toArray s 0 0 (va_A (wM cZ bd n (nI N) th) sz)) (F0 m 30 ls []) := by
            intro fl
            induction fl with
            | zero =>
              intro i x2 hi hg e2
              exact absurd hg (by omega)
            | succ fl ih30 =>
              intro i x2 hi hg e2 H locs hP hD hS ls hl
              refine lv_iload_n hx hb dX2_grounded_30 rfl (lv_at hl 3 rfl) ?_
              refine lv_aload_n hx hb dX2_grounded_31 rfl (lv_at hl 0 rfl) ?_
              refine gX2_al hx hb hts hown hK hP dX2_grounded_32 ?_
              refine lv_icmp_gt (tgt := 70) hx hb dX2_grounded_35 (by decide) (fun c4 => ?_) (fun c4 => ?_)
              · refine lv_iload_n hx hb dX2_grounded_70 rfl (lv_at hl 2 rfl) ?_
                refine lv_if_eq (tgt := 76) hx hb dX2_grounded_71 (by decide) (fun c5 => ?_) (fun c5 => ?_)
                · refine lv_iinc (v := (nI (k + 1))) (lv' := [(1, .int (nI (k + 1))), (0, .ref (bd 0)), (2, .int x2), (3, .int (nI i))]) hx hb dX2_grounded_76 hl (k := 1) rfl (nI_1 k) (by decide) rfl (fun ls hl => ?_)
                  refine lv_goto (tgt := 2) hx hb dX2_grounded_79 (by decide) ?_
                  exact ih2 (k + 1) (by omega) (by omega) (lt_s hI (fun h => bI_z e2 c5 ⟨h.1, by have q := kgt (by omega) hi c4; rw [q]; exact h.2⟩)) H locs hP hD hS ls (lv_sub hl [1, 0] rfl)
                · refine lv_iload_n hx hb dX2_grounded_74 rfl (lv_at hl 1 rfl) ?_
                  exact greti hx hb hr hlocks () (by exact Or.inl ⟨k, by omega, by have h := bI_n e2 c5; have q := kgt (by omega) hi c4; rw [q] at h; exact h, rfl⟩) hP hD hS dX2_grounded_75
              · have hle2 : i ≤ N := kle (by omega) c4
                refine lv_iload_n hx hb dX2_grounded_38 rfl (lv_at hl 2 rfl) ?_
                refine lv_if_eq (tgt := 70) hx hb dX2_grounded_39 (by decide) (fun c6 => ?_) (fun c6 => ?_)
                · refine lv_iload_n hx hb dX2_grounded_70 rfl (lv_at hl 2 rfl) ?_
                  refine lv_if_eq (tgt := 76) hx hb dX2_grounded_71 (by decide) (fun c7 => ?_) (fun c7 => ?_)
                  · refine lv_iinc (v := (nI (k + 1))) (lv' := [(1, .int (nI (k + 1))), (0, .ref (bd 0)), (2, .int x2), (3, .int (nI i))]) hx hb dX2_grounded_76 hl (k := 1) rfl (nI_1 k) (by decide) rfl (fun ls hl => ?_)
                    refine lv_goto (tgt := 2) hx hb dX2_grounded_79 (by decide) ?_
                    exact ih2 (k + 1) (by omega) (by omega) (lt_s hI (fun h => bI_z e2 c7 ⟨h.1, fun j hj => h.2 j (by omega)⟩)) H locs hP hD hS ls (lv_sub hl [1, 0] rfl)
                  · refine lv_iload_n hx hb dX2_grounded_74 rfl (lv_at hl 1 rfl) ?_
                    exact greti hx hb hr hlocks () (absurd c6 c7) hP hD hS dX2_grounded_75
                · refine lv_aload_n hx hb dX2_grounded_42 rfl (lv_at hl 0 rfl) ?_
                  refine lv_iload_n hx hb dX2_grounded_43 rfl (lv_at hl 3 rfl) ?_
                  refine gcalli (As := [.int (nI i)]) (rest := []) ⟨hx, hb, hml, hown, hts⟩ (metX2_defended l dC dI cZ bd H.size n (nI N) th (nI i)) (cw_X2_defended hts ⟨Nat.le_of_ble_eq_true rfl, Nat.le_of_ble_eq_true rfl⟩) hK hP hD hS hA (ci := 1) (q0 := 0) rfl rfl hl.1 rfl (Nat.le_of_ble_eq_true rfl) dX2_grounded_44 ⟨Nat.le_of_ble_eq_true rfl, Nat.le_of_ble_eq_true rfl⟩ (fun rhd8 u H locs hd8 hP hD hS => ?_)
                  refine lv_iload_n hx hb dX2_grounded_47 rfl (lv_at hl 3 rfl) ?_
                  refine lv_iconst (v := (-1)) hx hb dX2_grounded_48 (by decide) ?_
                  refine lv_ixor hx hb dX2_grounded_49 ?_
                  refine lv_iand hx hb dX2_grounded_50 ?_
                  refine lv_if_ne (tgt := 64) hx hb dX2_grounded_51 (by decide) (fun c9 => ?_) (fun c9 => ?_)
                  · refine lv_iinc (v := (nI (i + 1))) (lv' := [(3, .int (nI (i + 1))), (0, .ref (bd 0)), (1, .int (nI k)), (2, .int x2)]) hx hb dX2_grounded_64 hl (k := 3) rfl (nI_1 i) (by decide) rfl (fun ls hl => ?_)
                    refine lv_goto (tgt := 30) hx hb dX2_grounded_67 (by decide) ?_
                    exact ih30 (i + 1) x2 (by omega) (by omega) (by rw [e2, bI_iff]; exact ⟨fun h => ⟨h.1, lt_s h.2 (fun h2 => absurd h2 (by unfold m_pre; rw [← hd8]; exact c9))⟩, fun h => ⟨h.1, fun j hj => h.2 j (by omega)⟩⟩) H locs hP hD hS ls (lv_sub hl [1, 2, 3, 0] rfl)
                  · refine lv_iload_n hx hb dX2_grounded_54 rfl (lv_at hl 1 rfl) ?_
                    refine lv_iload_n hx hb dX2_grounded_55 rfl (lv_at hl 3 rfl) ?_
                    refine lv_iconst (v := (-1)) hx hb dX2_grounded_56 (by decide) ?_
                    refine lv_ixor hx hb dX2_grounded_57 ?_
                    refine lv_iand hx hb dX2_grounded_58 ?_
                    refine lv_if_eq (tgt := 64) hx hb dX2_grounded_59 (by decide) (fun c10 => ?_) (fun c10 => ?_)
                    · refine lv_iinc (v := (nI (i + 1))) (lv' := [(3, .int (nI (i + 1))), (0, .ref (bd 0)), (1, .int (nI k)), (2, .int x2)]) hx hb dX2_grounded_64 hl (k := 3) rfl (nI_1 i) (by decide) rfl (fun ls hl => ?_)
                      refine lv_goto (tgt := 30) hx hb dX2_grounded_67 (by decide) ?_
                      exact ih30 (i + 1) x2 (by omega) (by omega) (by rw [e2, bI_iff]; exact ⟨fun h => ⟨h.1, lt_s h.2 (fun _ => c10)⟩, fun h => ⟨h.1, fun j hj => h.2 j (by omega)⟩⟩) H locs hP hD hS ls (lv_sub hl [1, 2, 3, 0] rfl)
                    · refine lv_iconst (v := 0) hx hb dX2_grounded_62 (by decide) ?_
                      refine lv_istore_n (lv' := [(2, .int 0), (0, .ref (bd 0)), (1, .int (nI k)), (3, .int (nI i))]) hx hb dX2_grounded_63 rfl hl (by decide) rfl (fun ls hl => ?_)
                      refine lv_iinc (v := (nI (i + 1))) (lv' := [(3, .int (nI (i + 1))), (2, .int 0), (0, .ref (bd 0)), (1, .int (nI k))]) hx hb dX2_grounded_64 hl (k := 3) rfl (nI_1 i) (by decide) rfl (fun ls hl => ?_)
                      refine lv_goto (tgt := 30) hx hb dX2_grounded_67 (by decide) ?_
                      exact ih30 (i + 1) 0 (by omega) (by omega) ((bI_f (fun h => c10 (h.2 i (by omega) (show m_pre th (nI N) (nI i) from by unfold m_pre; rw [← hd8]; exact c9)))).symm) H locs hP hD hS ls (lv_sub hl [2, 3, 1, 0] rfl)
          exact loop30 (N + 2) 0 _ (by omega) (by omega) (bI_iff ⟨fun h => ⟨h, lt_0⟩, fun h => h.1⟩) H locs hP hD hS ls (lv_sub hl [2, 3, 1, 0] rfl)
        · refine lv_iconst (v := 1) hx hb dX2_grounded_22 (by decide) ?_
          refine lv_goto (tgt := 27) hx hb dX2_grounded_23 (by decide) ?_
          refine tope (y := bI (m_pre th (nI N) (nI k))) (by exact (bI_t (show m_pre th (nI N) (nI k) from by unfold m_pre; rw [← hd2]; exact c3)).symm) ?_
          refine lv_istore_n (lv' := [(2, .int (bI (m_pre th (nI N) (nI k)))), (0, .ref (bd 0)), (1, .int (nI k))]) hx hb dX2_grounded_27 rfl hl (by decide) rfl (fun ls hl => ?_)
          refine lv_iconst (v := 0) hx hb dX2_grounded_28 (by decide) ?_
          refine lv_istore_n (lv' := [(3, .int 0), (2, .int (bI (m_pre th (nI N) (nI k)))), (0, .ref (bd 0)), (1, .int (nI k))]) hx hb dX2_grounded_29 rfl hl (by decide) rfl (fun ls hl => ?_)
          have loop30 : ∀ (fl : Nat) (i : Nat) (x2 : Int32), i ≤ N + 1 → N + 1 < i + fl → x2 = bI (m_pre th (nI N) (nI k) ∧ ∀ j, j < i → m_pre th (nI N) (nI j) → (nI k &&& (nI j ^^^ (-1))) = 0) → ∀ (H : Heap) (locs : List Loc), va_P (dC, dI) cl2 (wM cZ bd n (nI N) th) H → va_D (va_A (wM cZ bd n (nI N) th) sz) (wM cZ bd n (nI N) th) → va_S (va_A (wM cZ bd n (nI N) th) sz) s.heap H locs → ∀ (ls : Array Slot), lv_has ls 4 [(0, .ref (bd 0)), (1, .int (nI k)), (2, .int x2), (3, .int (nI i))] → W p l e rm_X2_grounded s m ([.ref (bd 0)] : List Value).toArray below meth c H locs 0 0 (MQ below (gQi (dC, dI) (fun (r : Int32) (_ : Unit) => m_grd th N r) (wM cZ bd n (nI N) th) (fun _ => (wM cZ bd n (nI N) th)) sz) ([.ref (bd 0)] : List Value).toArray s 0 0 (va_A (wM cZ bd n (nI N) th) sz)) (F0 m 30 ls []) := by
            intro fl
            induction fl with
            | zero =>
              intro i x2 hi hg e2
              exact absurd hg (by omega)
            | succ fl ih30 =>
              intro i x2 hi hg e2 H locs hP hD hS ls hl
              refine lv_iload_n hx hb dX2_grounded_30 rfl (lv_at hl 3 rfl) ?_
              refine lv_aload_n hx hb dX2_grounded_31 rfl (lv_at hl 0 rfl) ?_
              refine gX2_al hx hb hts hown hK hP dX2_grounded_32 ?_
              refine lv_icmp_gt (tgt := 70) hx hb dX2_grounded_35 (by decide) (fun c11 => ?_) (fun c11 => ?_)
              · refine lv_iload_n hx hb dX2_grounded_70 rfl (lv_at hl 2 rfl) ?_
                refine lv_if_eq (tgt := 76) hx hb dX2_grounded_71 (by decide) (fun c12 => ?_) (fun c12 => ?_)
                · refine lv_iinc (v := (nI (k + 1))) (lv' := [(1, .int (nI (k + 1))), (0, .ref (bd 0)), (2, .int x2), (3, .int (nI i))]) hx hb dX2_grounded_76 hl (k := 1) rfl (nI_1 k) (by decide) rfl (fun ls hl => ?_)
                  refine lv_goto (tgt := 2) hx hb dX2_grounded_79 (by decide) ?_
                  exact ih2 (k + 1) (by omega) (by omega) (lt_s hI (fun h => bI_z e2 c12 ⟨h.1, by have q := kgt (by omega) hi c11; rw [q]; exact h.2⟩)) H locs hP hD hS ls (lv_sub hl [1, 0] rfl)
                · refine lv_iload_n hx hb dX2_grounded_74 rfl (lv_at hl 1 rfl) ?_
                  exact greti hx hb hr hlocks () (by exact Or.inl ⟨k, by omega, by have h := bI_n e2 c12; have q := kgt (by omega) hi c11; rw [q] at h; exact h, rfl⟩) hP hD hS dX2_grounded_75
              · have hle2 : i ≤ N := kle (by omega) c11
                refine lv_iload_n hx hb dX2_grounded_38 rfl (lv_at hl 2 rfl) ?_
                refine lv_if_eq (tgt := 70) hx hb dX2_grounded_39 (by decide) (fun c13 => ?_) (fun c13 => ?_)
                · refine lv_iload_n hx hb dX2_grounded_70 rfl (lv_at hl 2 rfl) ?_
                  refine lv_if_eq (tgt := 76) hx hb dX2_grounded_71 (by decide) (fun c14 => ?_) (fun c14 => ?_)
                  · refine lv_iinc (v := (nI (k + 1))) (lv' := [(1, .int (nI (k + 1))), (0, .ref (bd 0)), (2, .int x2), (3, .int (nI i))]) hx hb dX2_grounded_76 hl (k := 1) rfl (nI_1 k) (by decide) rfl (fun ls hl => ?_)
                    refine lv_goto (tgt := 2) hx hb dX2_grounded_79 (by decide) ?_
                    exact ih2 (k + 1) (by omega) (by omega) (lt_s hI (fun h => bI_z e2 c14 ⟨h.1, fun j hj => h.2 j (by omega)⟩)) H locs hP hD hS ls (lv_sub hl [1, 0] rfl)
                  · refine lv_iload_n hx hb dX2_grounded_74 rfl (lv_at hl 1 rfl) ?_
                    exact greti hx hb hr hlocks () (absurd c13 c14) hP hD hS dX2_grounded_75
                · refine lv_aload_n hx hb dX2_grounded_42 rfl (lv_at hl 0 rfl) ?_
                  refine lv_iload_n hx hb dX2_grounded_43 rfl (lv_at hl 3 rfl) ?_
                  refine gcalli (As := [.int (nI i)]) (rest := []) ⟨hx, hb, hml, hown, hts⟩ (metX2_defended l dC dI cZ bd H.size n (nI N) th (nI i)) (cw_X2_defended hts ⟨Nat.le_of_ble_eq_true rfl, Nat.le_of_ble_eq_true rfl⟩) hK hP hD hS hA (ci := 1) (q0 := 0) rfl rfl hl.1 rfl (Nat.le_of_ble_eq_true rfl) dX2_grounded_44 ⟨Nat.le_of_ble_eq_true rfl, Nat.le_of_ble_eq_true rfl⟩ (fun rhd15 u H locs hd15 hP hD hS => ?_)
                  refine lv_iload_n hx hb dX2_grounded_47 rfl (lv_at hl 3 rfl) ?_
                  refine lv_iconst (v := (-1)) hx hb dX2_grounded_48 (by decide) ?_
                  refine lv_ixor hx hb dX2_grounded_49 ?_
                  refine lv_iand hx hb dX2_grounded_50 ?_
                  refine lv_if_ne (tgt := 64) hx hb dX2_grounded_51 (by decide) (fun c16 => ?_) (fun c16 => ?_)
                  · refine lv_iinc (v := (nI (i + 1))) (lv' := [(3, .int (nI (i + 1))), (0, .ref (bd 0)), (1, .int (nI k)), (2, .int x2)]) hx hb dX2_grounded_64 hl (k := 3) rfl (nI_1 i) (by decide) rfl (fun ls hl => ?_)
                    refine lv_goto (tgt := 30) hx hb dX2_grounded_67 (by decide) ?_
                    exact ih30 (i + 1) x2 (by omega) (by omega) (by rw [e2, bI_iff]; exact ⟨fun h => ⟨h.1, lt_s h.2 (fun h2 => absurd h2 (by unfold m_pre; rw [← hd15]; exact c16))⟩, fun h => ⟨h.1, fun j hj => h.2 j (by omega)⟩⟩) H locs hP hD hS ls (lv_sub hl [1, 2, 3, 0] rfl)
                  · refine lv_iload_n hx hb dX2_grounded_54 rfl (lv_at hl 1 rfl) ?_
                    refine lv_iload_n hx hb dX2_grounded_55 rfl (lv_at hl 3 rfl) ?_
                    refine lv_iconst (v := (-1)) hx hb dX2_grounded_56 (by decide) ?_
                    refine lv_ixor hx hb dX2_grounded_57 ?_
                    refine lv_iand hx hb dX2_grounded_58 ?_
                    refine lv_if_eq (tgt := 64) hx hb dX2_grounded_59 (by decide) (fun c17 => ?_) (fun c17 => ?_)
                    · refine lv_iinc (v := (nI (i + 1))) (lv' := [(3, .int (nI (i + 1))), (0, .ref (bd 0)), (1, .int (nI k)), (2, .int x2)]) hx hb dX2_grounded_64 hl (k := 3) rfl (nI_1 i) (by decide) rfl (fun ls hl => ?_)
                      refine lv_goto (tgt := 30) hx hb dX2_grounded_67 (by decide) ?_
                      exact ih30 (i + 1) x2 (by omega) (by omega) (by rw [e2, bI_iff]; exact ⟨fun h => ⟨h.1, lt_s h.2 (fun _ => c17)⟩, fun h => ⟨h.1, fun j hj => h.2 j (by omega)⟩⟩) H locs hP hD hS ls (lv_sub hl [1, 2, 3, 0] rfl)
                    · refine lv_iconst (v := 0) hx hb dX2_grounded_62 (by decide) ?_
                      refine lv_istore_n (lv' := [(2, .int 0), (0, .ref (bd 0)), (1, .int (nI k)), (3, .int (nI i))]) hx hb dX2_grounded_63 rfl hl (by decide) rfl (fun ls hl => ?_)
                      refine lv_iinc (v := (nI (i + 1))) (lv' := [(3, .int (nI (i + 1))), (2, .int 0), (0, .ref (bd 0)), (1, .int (nI k))]) hx hb dX2_grounded_64 hl (k := 3) rfl (nI_1 i) (by decide) rfl (fun ls hl => ?_)
                      refine lv_goto (tgt := 30) hx hb dX2_grounded_67 (by decide) ?_
                      exact ih30 (i + 1) 0 (by omega) (by omega) ((bI_f (fun h => c17 (h.2 i (by omega) (show m_pre th (nI N) (nI i) from by unfold m_pre; rw [← hd15]; exact c16)))).symm) H locs hP hD hS ls (lv_sub hl [2, 3, 1, 0] rfl)
          exact loop30 (N + 2) 0 _ (by omega) (by omega) (bI_iff ⟨fun h => ⟨h, lt_0⟩, fun h => h.1⟩) H locs hP hD hS ls (lv_sub hl [2, 3, 1, 0] rfl)
  exact loop2 (N + 2) 0 (by omega) (by omega) lt_0 s.heap [] hP hD hS ls (lv_sub hl [1, 0] rfl)

abbrev rm_X2_attack : Room := { frames := 1, cells := 0, slots := 0, locals := 21 }
set_option maxHeartbeats 4000000 in
set_option maxRecDepth 100000 in
theorem metX2_attack (l : Launch) (dC : Nat → ClassId) (dI : Nat → Nat → Nat) (cZ : ClassId) (bd : Nat → Nat) (sz : Nat) (n : Int32) (al : Int32) (th : Nat → Int32) (ν : Nat) (a : Int32) (b : Int32) (hn : n = nI ν) (hv : ν ≤ 8) : Met l yX2_attack (ws_ yX2_attack cX2_attack 3 (some .int)) rm_X2_attack (gP (dC, dI) (tyM cZ) (wM cZ bd n al th) sz [.ref (bd 0), .int a, .int b]) (gQi (dC, dI) (fun (r : Int32) (u : Nat → Int32) => m_atk ν n th a b r u) (wM cZ bd n al th) (fun u => wM cZ bd n al u) sz) 0 0 (va_A (wM cZ bd n al th) sz) := by
  refine gstart (own := RX2) (by decide) rfl (Nat.le_of_ble_eq_true rfl) ?_
  intro p e s m below meth c hx hb hr hlocks hml hown hts hsz hP hK hD hA hnm ls hl
  have hS : va_S (va_A (wM cZ bd n al th) sz) s.heap s.heap [] := va_S.rf
  have hl : lv_has ls 3 [(0, .ref (bd 0)), (1, .int a), (2, .int b)] := hl
  refine lv_aload_n hx hb dX2_attack_0 rfl (lv_at hl 0 rfl) ?_
  refine lv_iload_n hx hb dX2_attack_1 rfl (lv_at hl 1 rfl) ?_
  refine gcalli (As := [.int a]) (rest := []) ⟨hx, hb, hml, hown, hts⟩ (metX2_isArgument l dC dI cZ bd s.heap.size n al th a) (cw_X2_isArgument hts ⟨Nat.le_of_ble_eq_true rfl, Nat.le_of_ble_eq_true rfl⟩) hK hP hD hS hA (ci := 1) (q0 := 0) rfl rfl hl.1 rfl (Nat.le_of_ble_eq_true rfl) dX2_attack_2 ⟨Nat.le_of_ble_eq_true rfl, Nat.le_of_ble_eq_true rfl⟩ (fun rha_ u H locs ha_ hP hD hS => ?_)
  refine lv_if_eq (tgt := 16) hx hb dX2_attack_5 (by decide) (fun c2 => ?_) (fun c2 => ?_)
  · refine lv_iconst (v := (-1)) hx hb dX2_attack_16 (by decide) ?_
    exact greti hx hb hr hlocks th (by exact Or.inl ⟨fun h => bI_z ha_ c2 h.1, rfl, rfl⟩) hP hD hS dX2_attack_17
  · refine lv_aload_n hx hb dX2_attack_8 rfl (lv_at hl 0 rfl) ?_
    refine lv_iload_n hx hb dX2_attack_9 rfl (lv_at hl 2 rfl) ?_
    refine gcalli (As := [.int b]) (rest := []) ⟨hx, hb, hml, hown, hts⟩ (metX2_isArgument l dC dI cZ bd H.size n al th b) (cw_X2_isArgument hts ⟨Nat.le_of_ble_eq_true rfl, Nat.le_of_ble_eq_true rfl⟩) hK hP hD hS hA (ci := 1) (q0 := 0) rfl rfl hl.1 rfl (Nat.le_of_ble_eq_true rfl) dX2_attack_10 ⟨Nat.le_of_ble_eq_true rfl, Nat.le_of_ble_eq_true rfl⟩ (fun rhb_ u H locs hb_ hP hD hS => ?_)
    refine lv_if_ne (tgt := 18) hx hb dX2_attack_13 (by decide) (fun c4 => ?_) (fun c4 => ?_)
    · obtain ⟨i, hi, ei⟩ := argP_of hn (bI_n ha_ c2)
      obtain ⟨j, hj, ej⟩ := argP_of hn (bI_n hb_ c4)
      refine lv_aload_n hx hb dX2_attack_18 rfl (lv_at hl 0 rfl) ?_
      refine gX2_th hx hb hts hown hK hP dX2_attack_19 ?_
      refine lv_bipush (v := 8) hx hb dX2_attack_22 (by decide) ?_
      refine lv_iload_n hx hb dX2_attack_24 rfl (lv_at hl 1 rfl) ?_
      refine lv_imul hx hb dX2_attack_25 ?_
      refine lv_iload_n hx hb dX2_attack_26 rfl (lv_at hl 2 rfl) ?_
      refine lv_iadd hx hb dX2_attack_27 ?_
      refine lX2_th hx hb hK hP (8 * i + j) (ix8 ei ej) (by omega) dX2_attack_28 ?_
      refine lv_if_eq (tgt := 34) hx hb dX2_attack_29 (by decide) (fun c5 => ?_) (fun c5 => ?_)
      · refine lv_aload_n hx hb dX2_attack_34 rfl (lv_at hl 0 rfl) ?_
        refine gX2_th hx hb hts hown hK hP dX2_attack_35 ?_
        refine lv_bipush (v := 8) hx hb dX2_attack_38 (by decide) ?_
        refine lv_iload_n hx hb dX2_attack_40 rfl (lv_at hl 1 rfl) ?_
        refine lv_imul hx hb dX2_attack_41 ?_
        refine lv_iload_n hx hb dX2_attack_42 rfl (lv_at hl 2 rfl) ?_
        refine lv_iadd hx hb dX2_attack_43 ?_
        refine lv_iconst (v := 1) hx hb dX2_attack_44 (by decide) ?_
        refine sX2_th hx hb hK hP hD hS (8 * i + j) (ix8 ei ej) (by omega) (y := 1) (by decide) dX2_attack_45 (fun H locs hP hD hS => ?_)
        refine lv_iconst (v := 1) hx hb dX2_attack_46 (by decide) ?_
        exact greti hx hb hr hlocks _ (by exact Or.inr ⟨i, j, hi, hj, ei, ej, Or.inr ⟨c5, rfl, rfl⟩⟩) hP hD hS dX2_attack_47
      · refine lv_iconst (v := 0) hx hb dX2_attack_32 (by decide) ?_
        exact greti hx hb hr hlocks th (by exact Or.inr ⟨i, j, hi, hj, ei, ej, Or.inl ⟨c5, rfl, rfl⟩⟩) hP hD hS dX2_attack_33
    · refine lv_iconst (v := (-1)) hx hb dX2_attack_16 (by decide) ?_
      exact greti hx hb hr hlocks th (by exact Or.inl ⟨fun h => bI_z hb_ c4 h.2, rfl, rfl⟩) hP hD hS dX2_attack_17

abbrev rm_X2_withdraw : Room := { frames := 1, cells := 0, slots := 0, locals := 21 }
set_option maxHeartbeats 4000000 in
set_option maxRecDepth 100000 in
theorem metX2_withdraw (l : Launch) (dC : Nat → ClassId) (dI : Nat → Nat → Nat) (cZ : ClassId) (bd : Nat → Nat) (sz : Nat) (n : Int32) (al : Int32) (th : Nat → Int32) (ν : Nat) (a : Int32) (b : Int32) (hn : n = nI ν) (hv : ν ≤ 8) : Met l yX2_withdraw (ws_ yX2_withdraw cX2_withdraw 3 (some .int)) rm_X2_withdraw (gP (dC, dI) (tyM cZ) (wM cZ bd n al th) sz [.ref (bd 0), .int a, .int b]) (gQi (dC, dI) (fun (r : Int32) (u : Nat → Int32) => m_wdr ν n th a b r u) (wM cZ bd n al th) (fun u => wM cZ bd n al u) sz) 0 0 (va_A (wM cZ bd n al th) sz) := by
  refine gstart (own := RX2) (by decide) rfl (Nat.le_of_ble_eq_true rfl) ?_
  intro p e s m below meth c hx hb hr hlocks hml hown hts hsz hP hK hD hA hnm ls hl
  have hS : va_S (va_A (wM cZ bd n al th) sz) s.heap s.heap [] := va_S.rf
  have hl : lv_has ls 3 [(0, .ref (bd 0)), (1, .int a), (2, .int b)] := hl
  refine lv_aload_n hx hb dX2_withdraw_0 rfl (lv_at hl 0 rfl) ?_
  refine lv_iload_n hx hb dX2_withdraw_1 rfl (lv_at hl 1 rfl) ?_
  refine gcalli (As := [.int a]) (rest := []) ⟨hx, hb, hml, hown, hts⟩ (metX2_isArgument l dC dI cZ bd s.heap.size n al th a) (cw_X2_isArgument hts ⟨Nat.le_of_ble_eq_true rfl, Nat.le_of_ble_eq_true rfl⟩) hK hP hD hS hA (ci := 1) (q0 := 0) rfl rfl hl.1 rfl (Nat.le_of_ble_eq_true rfl) dX2_withdraw_2 ⟨Nat.le_of_ble_eq_true rfl, Nat.le_of_ble_eq_true rfl⟩ (fun rha_ u H locs ha_ hP hD hS => ?_)
  refine lv_if_eq (tgt := 16) hx hb dX2_withdraw_5 (by decide) (fun c2 => ?_) (fun c2 => ?_)
  · refine lv_iconst (v := (-1)) hx hb dX2_withdraw_16 (by decide) ?_
    exact greti hx hb hr hlocks th (by exact Or.inl ⟨fun h => bI_z ha_ c2 h.1, rfl, rfl⟩) hP hD hS dX2_withdraw_17
  · refine lv_aload_n hx hb dX2_withdraw_8 rfl (lv_at hl 0 rfl) ?_
    refine lv_iload_n hx hb dX2_withdraw_9 rfl (lv_at hl 2 rfl) ?_
    refine gcalli (As := [.int b]) (rest := []) ⟨hx, hb, hml, hown, hts⟩ (metX2_isArgument l dC dI cZ bd H.size n al th b) (cw_X2_isArgument hts ⟨Nat.le_of_ble_eq_true rfl, Nat.le_of_ble_eq_true rfl⟩) hK hP hD hS hA (ci := 1) (q0 := 0) rfl rfl hl.1 rfl (Nat.le_of_ble_eq_true rfl) dX2_withdraw_10 ⟨Nat.le_of_ble_eq_true rfl, Nat.le_of_ble_eq_true rfl⟩ (fun rhb_ u H locs hb_ hP hD hS => ?_)
    refine lv_if_ne (tgt := 18) hx hb dX2_withdraw_13 (by decide) (fun c4 => ?_) (fun c4 => ?_)
    · obtain ⟨i, hi, ei⟩ := argP_of hn (bI_n ha_ c2)
      obtain ⟨j, hj, ej⟩ := argP_of hn (bI_n hb_ c4)
      refine lv_aload_n hx hb dX2_withdraw_18 rfl (lv_at hl 0 rfl) ?_
      refine gX2_th hx hb hts hown hK hP dX2_withdraw_19 ?_
      refine lv_bipush (v := 8) hx hb dX2_withdraw_22 (by decide) ?_
      refine lv_iload_n hx hb dX2_withdraw_24 rfl (lv_at hl 1 rfl) ?_
      refine lv_imul hx hb dX2_withdraw_25 ?_
      refine lv_iload_n hx hb dX2_withdraw_26 rfl (lv_at hl 2 rfl) ?_
      refine lv_iadd hx hb dX2_withdraw_27 ?_
      refine lX2_th hx hb hK hP (8 * i + j) (ix8 ei ej) (by omega) dX2_withdraw_28 ?_
      refine lv_if_ne (tgt := 34) hx hb dX2_withdraw_29 (by decide) (fun c5 => ?_) (fun c5 => ?_)
      · refine lv_aload_n hx hb dX2_withdraw_34 rfl (lv_at hl 0 rfl) ?_
        refine gX2_th hx hb hts hown hK hP dX2_withdraw_35 ?_
        refine lv_bipush (v := 8) hx hb dX2_withdraw_38 (by decide) ?_
        refine lv_iload_n hx hb dX2_withdraw_40 rfl (lv_at hl 1 rfl) ?_
        refine lv_imul hx hb dX2_withdraw_41 ?_
        refine lv_iload_n hx hb dX2_withdraw_42 rfl (lv_at hl 2 rfl) ?_
        refine lv_iadd hx hb dX2_withdraw_43 ?_
        refine lv_iconst (v := 0) hx hb dX2_withdraw_44 (by decide) ?_
        refine sX2_th hx hb hK hP hD hS (8 * i + j) (ix8 ei ej) (by omega) (y := 0) (by decide) dX2_withdraw_45 (fun H locs hP hD hS => ?_)
        refine lv_iconst (v := 1) hx hb dX2_withdraw_46 (by decide) ?_
        exact greti hx hb hr hlocks _ (by exact Or.inr ⟨i, j, hi, hj, ei, ej, Or.inr ⟨c5, rfl, rfl⟩⟩) hP hD hS dX2_withdraw_47
      · refine lv_iconst (v := 0) hx hb dX2_withdraw_32 (by decide) ?_
        exact greti hx hb hr hlocks th (by exact Or.inr ⟨i, j, hi, hj, ei, ej, Or.inl ⟨c5, rfl, rfl⟩⟩) hP hD hS dX2_withdraw_33
    · refine lv_iconst (v := (-1)) hx hb dX2_withdraw_16 (by decide) ?_
      exact greti hx hb hr hlocks th (by exact Or.inl ⟨fun h => bI_z hb_ c4 h.2, rfl, rfl⟩) hP hD hS dX2_withdraw_17

abbrev rm_X2_attacks : Room := { frames := 1, cells := 0, slots := 0, locals := 21 }
set_option maxHeartbeats 4000000 in
set_option maxRecDepth 100000 in
theorem metX2_attacks (l : Launch) (dC : Nat → ClassId) (dI : Nat → Nat → Nat) (cZ : ClassId) (bd : Nat → Nat) (sz : Nat) (n : Int32) (al : Int32) (th : Nat → Int32) (ν : Nat) (a : Int32) (b : Int32) (hn : n = nI ν) (hv : ν ≤ 8) : Met l yX2_attacks (ws_ yX2_attacks cX2_attacks 3 (some .boolean)) rm_X2_attacks (gP (dC, dI) (tyM cZ) (wM cZ bd n al th) sz [.ref (bd 0), .int a, .int b]) (gQi (dC, dI) (fun (r : Int32) (_ : Unit) => m_ats ν n th a b r) (wM cZ bd n al th) (fun _ => (wM cZ bd n al th)) sz) 0 0 (va_A (wM cZ bd n al th) sz) := by
  refine gstart (own := RX2) (by decide) rfl (Nat.le_of_ble_eq_true rfl) ?_
  intro p e s m below meth c hx hb hr hlocks hml hown hts hsz hP hK hD hA hnm ls hl
  have hS : va_S (va_A (wM cZ bd n al th) sz) s.heap s.heap [] := va_S.rf
  have hl : lv_has ls 3 [(0, .ref (bd 0)), (1, .int a), (2, .int b)] := hl
  refine lv_aload_n hx hb dX2_attacks_0 rfl (lv_at hl 0 rfl) ?_
  refine lv_iload_n hx hb dX2_attacks_1 rfl (lv_at hl 1 rfl) ?_
  refine gcalli (As := [.int a]) (rest := []) ⟨hx, hb, hml, hown, hts⟩ (metX2_isArgument l dC dI cZ bd s.heap.size n al th a) (cw_X2_isArgument hts ⟨Nat.le_of_ble_eq_true rfl, Nat.le_of_ble_eq_true rfl⟩) hK hP hD hS hA (ci := 1) (q0 := 0) rfl rfl hl.1 rfl (Nat.le_of_ble_eq_true rfl) dX2_attacks_2 ⟨Nat.le_of_ble_eq_true rfl, Nat.le_of_ble_eq_true rfl⟩ (fun rha_ u H locs ha_ hP hD hS => ?_)
  refine lv_if_eq (tgt := 34) hx hb dX2_attacks_5 (by decide) (fun c2 => ?_) (fun c2 => ?_)
  · refine lv_iconst (v := 0) hx hb dX2_attacks_34 (by decide) ?_
    exact gretz hx hb hr hlocks rfl () (by exact Or.inl ⟨fun h => bI_z ha_ c2 h.1, rfl⟩) hP hD hS dX2_attacks_35
  · refine lv_aload_n hx hb dX2_attacks_8 rfl (lv_at hl 0 rfl) ?_
    refine lv_iload_n hx hb dX2_attacks_9 rfl (lv_at hl 2 rfl) ?_
    refine gcalli (As := [.int b]) (rest := []) ⟨hx, hb, hml, hown, hts⟩ (metX2_isArgument l dC dI cZ bd H.size n al th b) (cw_X2_isArgument hts ⟨Nat.le_of_ble_eq_true rfl, Nat.le_of_ble_eq_true rfl⟩) hK hP hD hS hA (ci := 1) (q0 := 0) rfl rfl hl.1 rfl (Nat.le_of_ble_eq_true rfl) dX2_attacks_10 ⟨Nat.le_of_ble_eq_true rfl, Nat.le_of_ble_eq_true rfl⟩ (fun rhb_ u H locs hb_ hP hD hS => ?_)
    refine lv_if_eq (tgt := 34) hx hb dX2_attacks_13 (by decide) (fun c4 => ?_) (fun c4 => ?_)
    · refine lv_iconst (v := 0) hx hb dX2_attacks_34 (by decide) ?_
      exact gretz hx hb hr hlocks rfl () (by exact Or.inl ⟨fun h => bI_z hb_ c4 h.2, rfl⟩) hP hD hS dX2_attacks_35
    · obtain ⟨i, hi, ei⟩ := argP_of hn (bI_n ha_ c2)
      obtain ⟨j, hj, ej⟩ := argP_of hn (bI_n hb_ c4)
      refine lv_aload_n hx hb dX2_attacks_16 rfl (lv_at hl 0 rfl) ?_
      refine gX2_th hx hb hts hown hK hP dX2_attacks_17 ?_
      refine lv_bipush (v := 8) hx hb dX2_attacks_20 (by decide) ?_
      refine lv_iload_n hx hb dX2_attacks_22 rfl (lv_at hl 1 rfl) ?_
      refine lv_imul hx hb dX2_attacks_23 ?_
      refine lv_iload_n hx hb dX2_attacks_24 rfl (lv_at hl 2 rfl) ?_
      refine lv_iadd hx hb dX2_attacks_25 ?_
      refine lX2_th hx hb hK hP (8 * i + j) (ix8 ei ej) (by omega) dX2_attacks_26 ?_
      refine lv_if_eq (tgt := 34) hx hb dX2_attacks_27 (by decide) (fun c5 => ?_) (fun c5 => ?_)
      · refine lv_iconst (v := 0) hx hb dX2_attacks_34 (by decide) ?_
        exact gretz hx hb hr hlocks rfl () (by exact Or.inr ⟨i, j, hi, hj, ei, ej, (bI_f (fun h => h c5)).symm⟩) hP hD hS dX2_attacks_35
      · refine lv_iconst (v := 1) hx hb dX2_attacks_30 (by decide) ?_
        refine lv_goto (tgt := 35) hx hb dX2_attacks_31 (by decide) ?_
        exact gretz hx hb hr hlocks rfl () (by exact Or.inr ⟨i, j, hi, hj, ei, ej, (bI_t c5).symm⟩) hP hD hS dX2_attacks_35

abbrev rm_X2_clear : Room := { frames := 0, cells := 0, slots := 0, locals := 0 }
set_option maxHeartbeats 4000000 in
set_option maxRecDepth 100000 in
theorem metX2_clear (l : Launch) (dC : Nat → ClassId) (dI : Nat → Nat → Nat) (cZ : ClassId) (bd : Nat → Nat) (sz : Nat) (n : Int32) (al : Int32) (th : Nat → Int32)  : Met l yX2_clear (ws_ yX2_clear cX2_clear 3 (some .int)) rm_X2_clear (gP (dC, dI) (tyM cZ) (wM cZ bd n al th) sz [.ref (bd 0)]) (gQi (dC, dI) (fun (r : Int32) (u : Nat → Int32) => r = nI (g_cnt (fun j => ¬ th j = 0) 64) ∧ ∀ j, j < 64 → u j = 0) (wM cZ bd n al th) (fun u => wM cZ bd n al u) sz) 0 0 (va_A (wM cZ bd n al th) sz) := by
  refine gstart (own := RX2) (by decide) rfl (Nat.le_of_ble_eq_true rfl) ?_
  intro p e s m below meth c hx hb hr hlocks hml hown hts hsz hP hK hD hA hnm ls hl
  have hS : va_S (va_A (wM cZ bd n al th) sz) s.heap s.heap [] := va_S.rf
  have hl : lv_has ls 3 [(0, .ref (bd 0))] := hl
  refine lv_iconst (v := 0) hx hb dX2_clear_0 (by decide) ?_
  refine lv_istore_n (lv' := [(1, .int 0), (0, .ref (bd 0))]) hx hb dX2_clear_1 rfl hl (by decide) rfl (fun ls hl => ?_)
  refine lv_iconst (v := 0) hx hb dX2_clear_2 (by decide) ?_
  refine lv_istore_n (lv' := [(2, .int 0), (1, .int 0), (0, .ref (bd 0))]) hx hb dX2_clear_3 rfl hl (by decide) rfl (fun ls hl => ?_)
  have loop4 : ∀ (fl : Nat) (k : Nat) (x1 : Int32) (t1 : Nat → Int32), k ≤ 64 → 64 < k + fl → x1 = nI (g_cnt (fun j => ¬ th j = 0) k) → (∀ j, j < k → t1 j = 0) → (∀ j, k ≤ j → t1 j = th j) → ∀ (H : Heap) (locs : List Loc), va_P (dC, dI) cl2 (wM cZ bd n al t1) H → va_D (va_A (wM cZ bd n al th) sz) (wM cZ bd n al t1) → va_S (va_A (wM cZ bd n al th) sz) s.heap H locs → ∀ (ls : Array Slot), lv_has ls 3 [(0, .ref (bd 0)), (1, .int x1), (2, .int (nI k))] → W p l e rm_X2_clear s m ([.ref (bd 0)] : List Value).toArray below meth c H locs 0 0 (MQ below (gQi (dC, dI) (fun (r : Int32) (u : Nat → Int32) => r = nI (g_cnt (fun j => ¬ th j = 0) 64) ∧ ∀ j, j < 64 → u j = 0) (wM cZ bd n al th) (fun u => wM cZ bd n al u) sz) ([.ref (bd 0)] : List Value).toArray s 0 0 (va_A (wM cZ bd n al th) sz)) (F0 m 4 ls []) := by
    intro fl
    induction fl with
    | zero =>
      intro k x1 t1 hk hf e1 hI1 hI2
      exact absurd hf (by omega)
    | succ fl ih4 =>
      intro k x1 t1 hk hf e1 hI1 hI2 H locs hP hD hS ls hl
      refine lv_iload_n hx hb dX2_clear_4 rfl (lv_at hl 2 rfl) ?_
      refine lv_bipush (v := 64) hx hb dX2_clear_5 (by decide) ?_
      refine lv_icmp_ge (tgt := 35) hx hb dX2_clear_7 (by decide) (fun c1 => ?_) (fun c1 => ?_)
      · refine lv_iload_n hx hb dX2_clear_35 rfl (lv_at hl 1 rfl) ?_
        exact greti hx hb hr hlocks t1 (by have h := kge (by decide : (64 : Int32) = nI 64) (by decide) hk c1; rw [h] at e1 hI1; exact ⟨e1, hI1⟩) hP hD hS dX2_clear_36
      · have hlt : k < 64 := klt (by decide : (64 : Int32) = nI 64) (by omega) c1
        refine lv_aload_n hx hb dX2_clear_10 rfl (lv_at hl 0 rfl) ?_
        refine gX2_th hx hb hts hown hK hP dX2_clear_11 ?_
        refine lv_iload_n hx hb dX2_clear_14 rfl (lv_at hl 2 rfl) ?_
        refine lX2_th hx hb hK hP k rfl hlt dX2_clear_15 ?_
        refine lv_if_eq (tgt := 22) hx hb dX2_clear_16 (by decide) (fun c2 => ?_) (fun c2 => ?_)
        · refine lv_aload_n hx hb dX2_clear_22 rfl (lv_at hl 0 rfl) ?_
          refine gX2_th hx hb hts hown hK hP dX2_clear_23 ?_
          refine lv_iload_n hx hb dX2_clear_26 rfl (lv_at hl 2 rfl) ?_
          refine lv_iconst (v := 0) hx hb dX2_clear_27 (by decide) ?_
          refine sX2_th hx hb hK hP hD hS k rfl hlt (y := 0) (by decide) dX2_clear_28 (fun H locs hP hD hS => ?_)
          refine lv_iinc (v := (nI (k + 1))) (lv' := [(2, .int (nI (k + 1))), (0, .ref (bd 0)), (1, .int x1)]) hx hb dX2_clear_29 hl (k := 2) rfl (nI_1 k) (by decide) rfl (fun ls hl => ?_)
          refine lv_goto (tgt := 4) hx hb dX2_clear_32 (by decide) ?_
          exact ih4 (k + 1) x1 (upd t1 k 0) (by omega) (by omega) (by rw [g_cnt, cIf_f (fun h => h (by rw [← hI2 k (Nat.le_refl k)]; exact c2)), e1]) (clr_1 hI1) (clr_2 hI2) H locs hP hD hS ls (lv_sub hl [1, 2, 0] rfl)
        · refine lv_iinc (v := (x1 + 1)) (lv' := [(1, .int (x1 + 1)), (0, .ref (bd 0)), (2, .int (nI k))]) hx hb dX2_clear_19 hl (k := 1) rfl rfl (by decide) rfl (fun ls hl => ?_)
          refine lv_aload_n hx hb dX2_clear_22 rfl (lv_at hl 1 rfl) ?_
          refine gX2_th hx hb hts hown hK hP dX2_clear_23 ?_
          refine lv_iload_n hx hb dX2_clear_26 rfl (lv_at hl 2 rfl) ?_
          refine lv_iconst (v := 0) hx hb dX2_clear_27 (by decide) ?_
          refine sX2_th hx hb hK hP hD hS k rfl hlt (y := 0) (by decide) dX2_clear_28 (fun H locs hP hD hS => ?_)
          refine lv_iinc (v := (nI (k + 1))) (lv' := [(2, .int (nI (k + 1))), (1, .int (x1 + 1)), (0, .ref (bd 0))]) hx hb dX2_clear_29 hl (k := 2) rfl (nI_1 k) (by decide) rfl (fun ls hl => ?_)
          refine lv_goto (tgt := 4) hx hb dX2_clear_32 (by decide) ?_
          exact ih4 (k + 1) (x1 + 1) (upd t1 k 0) (by omega) (by omega) (by rw [g_cnt, cIf_t (by rw [← hI2 k (Nat.le_refl k)]; exact c2), e1]; exact nI_1 _) (clr_1 hI1) (clr_2 hI2) H locs hP hD hS ls (lv_sub hl [2, 1, 0] rfl)
  exact loop4 65 0 0 th (by omega) (by omega) rfl lt_0 (fun _ _ => rfl) s.heap [] hP hD hS ls (lv_sub hl [2, 1, 0] rfl)
end
section
/-! ===== words and rows for the labeller's walks ===== -/
theorem lw_step {o : Int32} {k : Nat} (hk : k < 7) (h : ((o >>> (nI k &&& 31)) &&& 1) = 0) : x_lw o (7 - k) = x_lw o (7 - (k + 1)) := by
  rw [show 7 - k = (6 - k) + 1 by omega, x_lw, show 6 - (6 - k) = k by omega, if_pos h, show 7 - (k + 1) = 6 - k by omega]
theorem lw_hit {o : Int32} {k : Nat} (hk : k < 7) (h : ¬ ((o >>> (nI k &&& 31)) &&& 1) = 0) : x_lw o (7 - k) = k := by
  rw [show 7 - k = (6 - k) + 1 by omega, x_lw, show 6 - (6 - k) = k by omega, if_neg h]
theorem lw_end {o : Int32} {k : Nat} (hk : k = 7) : x_lw o (7 - k) = k := by subst hk; rfl
theorem byte8 : ∀ k, k < 8 → (nI k).toInt8.toInt32 = nI k := by decide +kernel
theorem byte8s : ∀ k, k < 8 → vp_nar .byte (nI k) = nI k := by
  intro k hk
  rw [vp_nar_byte, byte8 k hk]
def x_brn (ev d : Int32) (t q : Nat) (ac re un : Int32) (fa fr fu fg ft kd rg : Nat → Int32) (r : Int32) (u : (Nat → Int32) × (Nat → Int32) × (Nat → Int32) × (Nat → Int32) × (Nat → Int32) × (Nat → Int32) × (Nat → Int32)) : Prop :=
  (x_opn ev ac re un = 0 ∧ r = d ∧ u = (fa, fr, fu, fg, ft, upd kd q 1, upd rg q (ac ||| re))) ∨
  (¬ x_opn ev ac re un = 0 ∧ r = nI t ∧ u = (upd fa t ac, upd fr t re, upd fu t un, upd fg t (nI (x_lw (x_opn ev ac re un) 7)), upd ft t 0, kd, rg))
def x_atk (ν : Nat) (n : Int32) (at_ tg : Nat → Int32) (se a b r : Int32) (u : (Nat → Int32) × (Nat → Int32) × Int32) : Prop :=
  (¬ (argP n a ∧ argP n b) ∧ r = -1 ∧ u = (at_, tg, se)) ∨ ∃ i j, i < ν ∧ j < ν ∧ a = nI i ∧ b = nI j ∧
    ((¬ ((tg i >>> (b &&& 31)) &&& 1) = 0 ∧ r = 0 ∧ u = (at_, tg, se)) ∨ (((tg i >>> (b &&& 31)) &&& 1) = 0 ∧ r = 1 ∧ u = (upd at_ j (at_ j ||| b1 a), upd tg i (tg i ||| b1 b), 0)))
def x_wdr (ν : Nat) (n : Int32) (at_ tg : Nat → Int32) (se a b r : Int32) (u : (Nat → Int32) × (Nat → Int32) × Int32) : Prop :=
  (¬ (argP n a ∧ argP n b) ∧ r = -1 ∧ u = (at_, tg, se)) ∨ ∃ i j, i < ν ∧ j < ν ∧ a = nI i ∧ b = nI j ∧
    ((((tg i >>> (b &&& 31)) &&& 1) = 0 ∧ r = 0 ∧ u = (at_, tg, se)) ∨ (¬ ((tg i >>> (b &&& 31)) &&& 1) = 0 ∧ r = 1 ∧ u = (upd at_ j (at_ j &&& (b1 a ^^^ (-1))), upd tg i (tg i &&& (b1 b ^^^ (-1))), 0)))
def x_ats (ν : Nat) (n : Int32) (tg : Nat → Int32) (a b r : Int32) : Prop := (¬ (argP n a ∧ argP n b) ∧ r = 0) ∨ ∃ i j, i < ν ∧ j < ν ∧ a = nI i ∧ b = nI j ∧ r = bI (¬ ((tg i >>> (b &&& 31)) &&& 1) = 0)
def x_row (t : Int32) : Nat → Int32
  | 0 => 0
  | k + 1 => x_row t k + ((t >>> (nI k &&& 31)) &&& 1)
def x_sum (tg : Nat → Int32) (ν : Nat) : Nat → Int32
  | 0 => 0
  | k + 1 => x_sum tg ν k + x_row (tg k) ν
def x_clr (ν : Nat) (at_ tg : Nat → Int32) (r : Int32) (u : (Nat → Int32) × (Nat → Int32) × Int32) : Prop :=
  r = x_sum tg ν ν ∧ (∀ j, j < ν → u.1 j = 0 ∧ u.2.1 j = 0) ∧ (∀ j, ν ≤ j → u.1 j = at_ j ∧ u.2.1 j = tg j) ∧ u.2.2 = 0
/-- compare -/
def c_hl (kd : Nat → Int32) (st o : Nat) : Prop := ¬ kd o = 0 ∧ ¬ nI o = nI st ∧ (nI st &&& (nI o ^^^ (-1))) = 0
def c_hw (kd rg : Nat → Int32) (st o : Nat) : Prop := ¬ kd o = 0 ∧ ¬ rg o = rg st ∧ (rg st &&& (rg o ^^^ (-1))) = 0
noncomputable def c_or (x : Int32) (P : Prop) (b : Int32) : Int32 := cIf P (x ||| b) x
noncomputable def c_F (ev : Int32) (kd rg : Nat → Int32) (st : Nat) : Int32 :=
  (c_or (c_or (c_or (kd st) (∀ o, o < 256 → ¬ c_hl kd st o) 2) (rg st = ev) 4) (∀ o, o < 256 → ¬ c_hw kd rg st o) 8).toInt8.toInt32
theorem c_or_t {x b : Int32} {P : Prop} (h : P) : c_or x P b = x ||| b := cIf_t h
theorem c_or_f {x b : Int32} {P : Prop} (h : ¬ P) : c_or x P b = x := cIf_f h
theorem c_F_nz {ev : Int32} {kd rg : Nat → Int32} {st : Nat} (h : kd st = 1) : ¬ c_F ev kd rg st = 0 := by
  unfold c_F
  generalize (∀ o, o < 256 → ¬ c_hl kd st o) = P
  generalize (rg st = ev) = Q
  generalize (∀ o, o < 256 → ¬ c_hw kd rg st o) = R
  rw [h]
  rcases Classical.em P with p | p <;> rcases Classical.em Q with q | q <;> rcases Classical.em R with r | r <;>
    first
    | (rw [c_or_t p, c_or_t q, c_or_t r]; decide +kernel)
    | (rw [c_or_t p, c_or_t q, c_or_f r]; decide +kernel)
    | (rw [c_or_t p, c_or_f q, c_or_t r]; decide +kernel)
    | (rw [c_or_t p, c_or_f q, c_or_f r]; decide +kernel)
    | (rw [c_or_f p, c_or_t q, c_or_t r]; decide +kernel)
    | (rw [c_or_f p, c_or_t q, c_or_f r]; decide +kernel)
    | (rw [c_or_f p, c_or_f q, c_or_t r]; decide +kernel)
    | (rw [c_or_f p, c_or_f q, c_or_f r]; decide +kernel)
/-- the state of kinds in compare's loop: k sets are done -/
def c_I (ev : Int32) (kd rg : Nat → Int32) (k : Nat) (kc : Nat → Int32) : Prop :=
  (∀ o, o < 256 → (kc o = 0 ↔ kd o = 0)) ∧ (∀ o, o < k → kc o = cIf (kd o = 0) 0 (c_F ev kd rg o)) ∧ ∀ o, k ≤ o → kc o = kd o
theorem c_I0 {ev : Int32} {kd rg : Nat → Int32} : c_I ev kd rg 0 kd := ⟨fun _ _ => Iff.rfl, lt_0, fun _ _ => rfl⟩
theorem c_Is {ev : Int32} {kd rg kc : Nat → Int32} {k : Nat} (h : c_I ev kd rg k kc) (z : kc k = 0) : c_I ev kd rg (k + 1) kc :=
  ⟨h.1, lt_s h.2.1 (by rw [cIf_t (by rw [← h.2.2 k (Nat.le_refl k)]; exact z)]; exact z), fun o ho => h.2.2 o (by omega)⟩
theorem c_Iw {ev v : Int32} {kd rg kc : Nat → Int32} {k : Nat} (h01 : ∀ o, o < 256 → kd o = 0 ∨ kd o = 1) (hk : k < 256) (h : c_I ev kd rg k kc) (z : ¬ kc k = 0) (hv : v = c_F ev kd rg k) : c_I ev kd rg (k + 1) (upd kc k v) := by
  have z' : ¬ kd k = 0 := by rw [← h.2.2 k (Nat.le_refl k)]; exact z
  have z1 : kd k = 1 := (h01 k hk).resolve_left z'
  refine ⟨fun o ho => ?_, fun o ho => ?_, fun o ho => ?_⟩
  · by_cases e : o = k
    · subst e
      rw [pk_us, hv]
      exact ⟨fun q => absurd q (c_F_nz z1), fun q => absurd q z'⟩
    · rw [pk_un e]; exact h.1 o ho
  · by_cases e : o = k
    · subst e
      rw [pk_us, hv, cIf_f z']
    · rw [pk_un e]; exact h.2.1 o (by omega)
  · rw [pk_un (by omega)]; exact h.2.2 o (by omega)
theorem and1 (x : Int32) : (x &&& 1) = 0 ∨ (x &&& 1) = 1 := by
  obtain ⟨j, hj, e⟩ := pk_andE x (m := 1) 1 (by decide)
  rw [e]
  rcases (show j = 0 ∨ j = 1 by omega) with rfl | rfl
  · left; decide
  · right; decide
end
section
abbrev rm_X1_isArgument : Room := { frames := 0, cells := 0, slots := 0, locals := 0 }
set_option maxHeartbeats 4000000 in
set_option maxRecDepth 100000 in
theorem metX1_isArgument (l : Launch) (dC : Nat → ClassId) (dI : Nat → Nat → Nat) (cI cB : ClassId) (ad : Nat → Nat) (sz : Nat) (n : Int32) (ev : Int32) (at_ : Nat → Int32) (tg : Nat → Int32) (ac : Int32) (re : Int32) (un : Int32) (ch : Int32) (fa : Nat → Int32) (fr : Nat → Int32) (fu : Nat → Int32) (fg : Nat → Int32) (ft : Nat → Int32) (se : Int32) (kd : Nat → Int32) (rg : Nat → Int32) (a : Int32)  : Met l yX1_isArgument (ws_ yX1_isArgument cX1_isArgument 2 (some .boolean)) rm_X1_isArgument (gP (dC, dI) (tyL cI cB) (wL cI cB ad n ev at_ tg ac re un ch fa fr fu fg ft se kd rg) sz [.ref (ad 0), .int a]) (gQi (dC, dI) (fun (r : Int32) (_ : Unit) => r = bI (argP n a)) (wL cI cB ad n ev at_ tg ac re un ch fa fr fu fg ft se kd rg) (fun _ => (wL cI cB ad n ev at_ tg ac re un ch fa fr fu fg ft se kd rg)) sz) 0 0 (va_A (wL cI cB ad n ev at_ tg ac re un ch fa fr fu fg ft se kd rg) sz) := by
  refine gstart (own := RX1) (by decide) rfl (Nat.le_of_ble_eq_true rfl) ?_
  intro p e s m below meth c hx hb hr hlocks hml hown hts hsz hP hK hD hA hnm ls hl
  have hS : va_S (va_A (wL cI cB ad n ev at_ tg ac re un ch fa fr fu fg ft se kd rg) sz) s.heap s.heap [] := va_S.rf
  have hl : lv_has ls 2 [(0, .ref (ad 0)), (1, .int a)] := hl
  refine lv_iload_n hx hb dX1_isArgument_0 rfl (lv_at hl 1 rfl) ?_
  refine lv_if_lt (tgt := 16) hx hb dX1_isArgument_1 (by decide) (fun c1 => ?_) (fun c1 => ?_)
  · refine lv_iconst (v := 0) hx hb dX1_isArgument_16 (by decide) ?_
    exact gretz hx hb hr hlocks rfl () (by exact (bI_f (fun h => h.1 c1)).symm) hP hD hS dX1_isArgument_17
  · refine lv_iload_n hx hb dX1_isArgument_4 rfl (lv_at hl 1 rfl) ?_
    refine lv_aload_n hx hb dX1_isArgument_5 rfl (lv_at hl 0 rfl) ?_
    refine gX1_n hx hb hts hown hK hP dX1_isArgument_6 ?_
    refine lv_icmp_ge (tgt := 16) hx hb dX1_isArgument_9 (by decide) (fun c2 => ?_) (fun c2 => ?_)
    · refine lv_iconst (v := 0) hx hb dX1_isArgument_16 (by decide) ?_
      exact gretz hx hb hr hlocks rfl () (by exact (bI_f (fun h => h.2 c2)).symm) hP hD hS dX1_isArgument_17
    · refine lv_iconst (v := 1) hx hb dX1_isArgument_12 (by decide) ?_
      refine lv_goto (tgt := 17) hx hb dX1_isArgument_13 (by decide) ?_
      exact gretz hx hb hr hlocks rfl () (by exact (bI_t ⟨c1, c2⟩).symm) hP hD hS dX1_isArgument_17

abbrev rm_X1_label : Room := { frames := 0, cells := 0, slots := 0, locals := 0 }
set_option maxHeartbeats 4000000 in
set_option maxRecDepth 100000 in
theorem metX1_label (l : Launch) (dC : Nat → ClassId) (dI : Nat → Nat → Nat) (cI cB : ClassId) (ad : Nat → Nat) (sz : Nat) (n : Int32) (ev : Int32) (at_ : Nat → Int32) (tg : Nat → Int32) (ac : Int32) (re : Int32) (un : Int32) (ch : Int32) (fa : Nat → Int32) (fr : Nat → Int32) (fu : Nat → Int32) (fg : Nat → Int32) (ft : Nat → Int32) (se : Int32) (kd : Nat → Int32) (rg : Nat → Int32) (a : Int32) (how : Int32)  : Met l yX1_label (ws_ yX1_label cX1_label 3 none) rm_X1_label (gP (dC, dI) (tyL cI cB) (wL cI cB ad n ev at_ tg ac re un ch fa fr fu fg ft se kd rg) sz [.ref (ad 0), .int a, .int how]) (gQv (dC, dI) (fun (u : Lb) => u = x_lab a how ac re un) (wL cI cB ad n ev at_ tg ac re un ch fa fr fu fg ft se kd rg) (fun u => wL cI cB ad n ev at_ tg u.1 u.2.1 u.2.2.1 u.2.2.2 fa fr fu fg ft se kd rg) sz) 0 0 (va_A (wL cI cB ad n ev at_ tg ac re un ch fa fr fu fg ft se kd rg) sz) := by
  refine gstart (own := RX1) (by decide) rfl (Nat.le_of_ble_eq_true rfl) ?_
  intro p e s m below meth c hx hb hr hlocks hml hown hts hsz hP hK hD hA hnm ls hl
  have hS : va_S (va_A (wL cI cB ad n ev at_ tg ac re un ch fa fr fu fg ft se kd rg) sz) s.heap s.heap [] := va_S.rf
  have hl : lv_has ls 3 [(0, .ref (ad 0)), (1, .int a), (2, .int how)] := hl
  refine lv_aload_n hx hb dX1_label_0 rfl (lv_at hl 0 rfl) ?_
  refine lv_iconst (v := 1) hx hb dX1_label_1 (by decide) ?_
  refine pX1_ch hx hb hts hown hK hP hD hS rfl rfl dX1_label_2 (fun H locs hP hD hS => ?_)
  refine lv_iload_n hx hb dX1_label_5 rfl (lv_at hl 2 rfl) ?_
  refine lv_if_ne (tgt := 24) hx hb dX1_label_6 (by decide) (fun c1 => ?_) (fun c1 => ?_)
  · refine lv_iload_n hx hb dX1_label_24 rfl (lv_at hl 2 rfl) ?_
    refine lv_iconst (v := 1) hx hb dX1_label_25 (by decide) ?_
    refine lv_icmp_ne (tgt := 44) hx hb dX1_label_26 (by decide) (fun c2 => ?_) (fun c2 => ?_)
    · refine lv_aload_n hx hb dX1_label_44 rfl (lv_at hl 0 rfl) ?_
      refine lv_dup hx hb dX1_label_45 rfl ?_
      refine gX1_un hx hb hts hown hK hP dX1_label_46 ?_
      refine lv_iconst (v := 1) hx hb dX1_label_49 (by decide) ?_
      refine lv_iload_n hx hb dX1_label_50 rfl (lv_at hl 1 rfl) ?_
      refine lv_ishl hx hb dX1_label_51 ?_
      refine lv_ior hx hb dX1_label_52 ?_
      refine pX1_un hx hb hts hown hK hP hD hS dX1_label_53 (fun H locs hP hD hS => ?_)
      exact gretv hx hb hr hlocks (ac, re, (un ||| (1 <<< (a &&& 31))), 1) (by show _ = x_lab a how ac re un; rw [x_lab, if_neg c1, if_neg c2]; rfl) hP hD hS dX1_label_56
    · refine lv_aload_n hx hb dX1_label_29 rfl (lv_at hl 0 rfl) ?_
      refine lv_dup hx hb dX1_label_30 rfl ?_
      refine gX1_re hx hb hts hown hK hP dX1_label_31 ?_
      refine lv_iconst (v := 1) hx hb dX1_label_34 (by decide) ?_
      refine lv_iload_n hx hb dX1_label_35 rfl (lv_at hl 1 rfl) ?_
      refine lv_ishl hx hb dX1_label_36 ?_
      refine lv_ior hx hb dX1_label_37 ?_
      refine pX1_re hx hb hts hown hK hP hD hS dX1_label_38 (fun H locs hP hD hS => ?_)
      refine lv_goto (tgt := 56) hx hb dX1_label_41 (by decide) ?_
      exact gretv hx hb hr hlocks (ac, (re ||| (1 <<< (a &&& 31))), un, 1) (by show _ = x_lab a how ac re un; rw [x_lab, if_neg c1, if_pos c2]; rfl) hP hD hS dX1_label_56
  · refine lv_aload_n hx hb dX1_label_9 rfl (lv_at hl 0 rfl) ?_
    refine lv_dup hx hb dX1_label_10 rfl ?_
    refine gX1_ac hx hb hts hown hK hP dX1_label_11 ?_
    refine lv_iconst (v := 1) hx hb dX1_label_14 (by decide) ?_
    refine lv_iload_n hx hb dX1_label_15 rfl (lv_at hl 1 rfl) ?_
    refine lv_ishl hx hb dX1_label_16 ?_
    refine lv_ior hx hb dX1_label_17 ?_
    refine pX1_ac hx hb hts hown hK hP hD hS dX1_label_18 (fun H locs hP hD hS => ?_)
    refine lv_goto (tgt := 56) hx hb dX1_label_21 (by decide) ?_
    exact gretv hx hb hr hlocks ((ac ||| (1 <<< (a &&& 31))), re, un, 1) (by show _ = x_lab a how ac re un; rw [x_lab, if_pos c1]; rfl) hP hD hS dX1_label_56

abbrev rm_X1_conclude : Room := { frames := 1, cells := 0, slots := 0, locals := 22 }
set_option maxHeartbeats 4000000 in
set_option maxRecDepth 100000 in
theorem metX1_conclude (l : Launch) (dC : Nat → ClassId) (dI : Nat → Nat → Nat) (cI cB : ClassId) (ad : Nat → Nat) (sz : Nat) (n : Int32) (ev : Int32) (at_ : Nat → Int32) (tg : Nat → Int32) (ac : Int32) (re : Int32) (un : Int32) (ch : Int32) (fa : Nat → Int32) (fr : Nat → Int32) (fu : Nat → Int32) (fg : Nat → Int32) (ft : Nat → Int32) (se : Int32) (kd : Nat → Int32) (rg : Nat → Int32) (j : Nat) (hj : j < 8) : Met l yX1_conclude (ws_ yX1_conclude cX1_conclude 5 (some .boolean)) rm_X1_conclude (gP (dC, dI) (tyL cI cB) (wL cI cB ad n ev at_ tg ac re un ch fa fr fu fg ft se kd rg) sz [.ref (ad 0), .int (nI j)]) (gQi (dC, dI) (fun (r : Int32) (u : Lb) => (r, u) = x_con ev (at_ j) (nI j) ac re un ch) (wL cI cB ad n ev at_ tg ac re un ch fa fr fu fg ft se kd rg) (fun u => wL cI cB ad n ev at_ tg u.1 u.2.1 u.2.2.1 u.2.2.2 fa fr fu fg ft se kd rg) sz) 0 0 (va_A (wL cI cB ad n ev at_ tg ac re un ch fa fr fu fg ft se kd rg) sz) := by
  refine gstart (own := RX1) (by decide) rfl (Nat.le_of_ble_eq_true rfl) ?_
  intro p e s m below meth c hx hb hr hlocks hml hown hts hsz hP hK hD hA hnm ls hl
  have hS : va_S (va_A (wL cI cB ad n ev at_ tg ac re un ch fa fr fu fg ft se kd rg) sz) s.heap s.heap [] := va_S.rf
  have hl : lv_has ls 5 [(0, .ref (ad 0)), (1, .int (nI j))] := hl
  refine lv_iconst (v := 1) hx hb dX1_conclude_0 (by decide) ?_
  refine lv_iload_n hx hb dX1_conclude_1 rfl (lv_at hl 1 rfl) ?_
  refine lv_ishl hx hb dX1_conclude_2 ?_
  refine tope (y := (b1 (nI j))) rfl ?_
  refine lv_istore_n (lv' := [(2, .int (b1 (nI j))), (0, .ref (ad 0)), (1, .int (nI j))]) hx hb dX1_conclude_3 rfl hl (by decide) rfl (fun ls hl => ?_)
  refine lv_aload_n hx hb dX1_conclude_4 rfl (lv_at hl 1 rfl) ?_
  refine gX1_at_ hx hb hts hown hK hP dX1_conclude_5 ?_
  refine lv_iload_n hx hb dX1_conclude_8 rfl (lv_at hl 2 rfl) ?_
  refine lX1_at_ hx hb hK hP j rfl hj dX1_conclude_9 ?_
  refine lv_istore_n (lv' := [(3, .int (at_ j)), (2, .int (b1 (nI j))), (0, .ref (ad 0)), (1, .int (nI j))]) hx hb dX1_conclude_10 rfl hl (by decide) rfl (fun ls hl => ?_)
  refine lv_aload_n hx hb dX1_conclude_11 rfl (lv_at hl 2 rfl) ?_
  refine gX1_ev hx hb hts hown hK hP dX1_conclude_12 ?_
  refine lv_aload_n hx hb dX1_conclude_15 rfl (lv_at hl 2 rfl) ?_
  refine gX1_ac hx hb hts hown hK hP dX1_conclude_16 ?_
  refine lv_aload_n hx hb dX1_conclude_19 rfl (lv_at hl 2 rfl) ?_
  refine gX1_re hx hb hts hown hK hP dX1_conclude_20 ?_
  refine lv_ior hx hb dX1_conclude_23 ?_
  refine lv_aload_n hx hb dX1_conclude_24 rfl (lv_at hl 2 rfl) ?_
  refine gX1_un hx hb hts hown hK hP dX1_conclude_25 ?_
  refine lv_ior hx hb dX1_conclude_28 ?_
  refine lv_iconst (v := (-1)) hx hb dX1_conclude_29 (by decide) ?_
  refine lv_ixor hx hb dX1_conclude_30 ?_
  refine lv_iand hx hb dX1_conclude_31 ?_
  refine tope (y := (x_opn ev ac re un)) rfl ?_
  refine lv_istore (lv' := [(4, .int (x_opn ev ac re un)), (3, .int (at_ j)), (2, .int (b1 (nI j))), (0, .ref (ad 0)), (1, .int (nI j))]) hx hb dX1_conclude_32 hl (by decide) rfl (fun ls hl => ?_)
  refine lv_iload_n hx hb dX1_conclude_34 rfl (lv_at hl 1 rfl) ?_
  refine lv_aload_n hx hb dX1_conclude_35 rfl (lv_at hl 3 rfl) ?_
  refine gX1_ac hx hb hts hown hK hP dX1_conclude_36 ?_
  refine lv_iand hx hb dX1_conclude_39 ?_
  refine lv_if_eq (tgt := 75) hx hb dX1_conclude_40 (by decide) (fun c1 => ?_) (fun c1 => ?_)
  · refine lv_iload_n hx hb dX1_conclude_75 rfl (lv_at hl 1 rfl) ?_
    refine lv_aload_n hx hb dX1_conclude_76 rfl (lv_at hl 3 rfl) ?_
    refine gX1_re hx hb hts hown hK hP dX1_conclude_77 ?_
    refine lv_iconst (v := (-1)) hx hb dX1_conclude_80 (by decide) ?_
    refine lv_ixor hx hb dX1_conclude_81 ?_
    refine lv_iand hx hb dX1_conclude_82 ?_
    refine lv_if_ne (tgt := 118) hx hb dX1_conclude_83 (by decide) (fun c2 => ?_) (fun c2 => ?_)
    · refine lv_iload_n hx hb dX1_conclude_118 rfl (lv_at hl 1 rfl) ?_
      refine lv_iload hx hb dX1_conclude_119 (lv_at hl 0 rfl) ?_
      refine lv_iand hx hb dX1_conclude_121 ?_
      refine lv_if_ne (tgt := 138) hx hb dX1_conclude_122 (by decide) (fun c3 => ?_) (fun c3 => ?_)
      · refine lv_iconst (v := 1) hx hb dX1_conclude_138 (by decide) ?_
        exact gretz hx hb hr hlocks rfl (ac, re, un, ch) (by show (_, _) = x_con ev (at_ j) (nI j) ac re un ch; rw [x_con, if_pos c1, if_neg c2, if_neg c3]) hP hD hS dX1_conclude_139
      · refine lv_iload hx hb dX1_conclude_125 (lv_at hl 0 rfl) ?_
        refine lv_iload_n hx hb dX1_conclude_127 rfl (lv_at hl 2 rfl) ?_
        refine lv_iand hx hb dX1_conclude_128 ?_
        refine lv_if_eq (tgt := 138) hx hb dX1_conclude_129 (by decide) (fun c4 => ?_) (fun c4 => ?_)
        · refine lv_iconst (v := 1) hx hb dX1_conclude_138 (by decide) ?_
          exact gretz hx hb hr hlocks rfl (ac, re, un, ch) (by show (_, _) = x_con ev (at_ j) (nI j) ac re un ch; rw [x_con, if_pos c1, if_neg c2, if_pos c3, if_pos c4]) hP hD hS dX1_conclude_139
        · refine lv_aload_n hx hb dX1_conclude_132 rfl (lv_at hl 3 rfl) ?_
          refine lv_iload_n hx hb dX1_conclude_133 rfl (lv_at hl 4 rfl) ?_
          refine lv_iconst (v := 2) hx hb dX1_conclude_134 (by decide) ?_
          refine gcallv (As := [.int (nI j), .int 2]) (rest := []) ⟨hx, hb, hml, hown, hts⟩ (metX1_label l dC dI cI cB ad s.heap.size n ev at_ tg ac re un ch fa fr fu fg ft se kd rg (nI j) 2) (cw_X1_label hts ⟨Nat.le_of_ble_eq_true rfl, Nat.le_of_ble_eq_true rfl⟩) hK hP hD hS hA (ci := 0) (q0 := 0) rfl rfl hl.1 rfl (Nat.le_of_ble_eq_true rfl) dX1_conclude_135 ⟨Nat.le_of_ble_eq_true rfl, Nat.le_of_ble_eq_true rfl⟩ (fun u H locs hL5 hP hD hS => ?_)
          obtain ⟨ac5, re5, un5, ch5⟩ := u
          have hP : va_P (dC, dI) cl2 (wL cI cB ad n ev at_ tg ac5 re5 un5 ch5 fa fr fu fg ft se kd rg) H := hP
          have hD : va_D (va_A (wL cI cB ad n ev at_ tg ac re un ch fa fr fu fg ft se kd rg) sz) (wL cI cB ad n ev at_ tg ac5 re5 un5 ch5 fa fr fu fg ft se kd rg) := hD
          refine lv_iconst (v := 1) hx hb dX1_conclude_138 (by decide) ?_
          exact gretz hx hb hr hlocks rfl (ac5, re5, un5, ch5) (by show (_, _) = x_con ev (at_ j) (nI j) ac re un ch; rw [x_con, if_pos c1, if_neg c2, if_pos c3, if_neg c4, ← hL5]) hP hD hS dX1_conclude_139
    · refine lv_aload_n hx hb dX1_conclude_86 rfl (lv_at hl 3 rfl) ?_
      refine gX1_re hx hb hts hown hK hP dX1_conclude_87 ?_
      refine lv_aload_n hx hb dX1_conclude_90 rfl (lv_at hl 3 rfl) ?_
      refine gX1_un hx hb hts hown hK hP dX1_conclude_91 ?_
      refine lv_ior hx hb dX1_conclude_94 ?_
      refine lv_iload_n hx hb dX1_conclude_95 rfl (lv_at hl 2 rfl) ?_
      refine lv_iand hx hb dX1_conclude_96 ?_
      refine lv_if_eq (tgt := 102) hx hb dX1_conclude_97 (by decide) (fun c6 => ?_) (fun c6 => ?_)
      · refine lv_iload hx hb dX1_conclude_102 (lv_at hl 0 rfl) ?_
        refine lv_iload_n hx hb dX1_conclude_104 rfl (lv_at hl 2 rfl) ?_
        refine lv_iand hx hb dX1_conclude_105 ?_
        refine lv_if_eq (tgt := 138) hx hb dX1_conclude_106 (by decide) (fun c7 => ?_) (fun c7 => ?_)
        · refine lv_iconst (v := 1) hx hb dX1_conclude_138 (by decide) ?_
          exact gretz hx hb hr hlocks rfl (ac, re, un, ch) (by show (_, _) = x_con ev (at_ j) (nI j) ac re un ch; rw [x_con, if_pos c1, if_pos c2, if_pos c6, if_pos c7]) hP hD hS dX1_conclude_139
        · refine lv_aload_n hx hb dX1_conclude_109 rfl (lv_at hl 3 rfl) ?_
          refine lv_iload_n hx hb dX1_conclude_110 rfl (lv_at hl 4 rfl) ?_
          refine lv_iconst (v := 0) hx hb dX1_conclude_111 (by decide) ?_
          refine gcallv (As := [.int (nI j), .int 0]) (rest := []) ⟨hx, hb, hml, hown, hts⟩ (metX1_label l dC dI cI cB ad s.heap.size n ev at_ tg ac re un ch fa fr fu fg ft se kd rg (nI j) 0) (cw_X1_label hts ⟨Nat.le_of_ble_eq_true rfl, Nat.le_of_ble_eq_true rfl⟩) hK hP hD hS hA (ci := 0) (q0 := 0) rfl rfl hl.1 rfl (Nat.le_of_ble_eq_true rfl) dX1_conclude_112 ⟨Nat.le_of_ble_eq_true rfl, Nat.le_of_ble_eq_true rfl⟩ (fun u H locs hL8 hP hD hS => ?_)
          obtain ⟨ac8, re8, un8, ch8⟩ := u
          have hP : va_P (dC, dI) cl2 (wL cI cB ad n ev at_ tg ac8 re8 un8 ch8 fa fr fu fg ft se kd rg) H := hP
          have hD : va_D (va_A (wL cI cB ad n ev at_ tg ac re un ch fa fr fu fg ft se kd rg) sz) (wL cI cB ad n ev at_ tg ac8 re8 un8 ch8 fa fr fu fg ft se kd rg) := hD
          refine lv_goto (tgt := 138) hx hb dX1_conclude_115 (by decide) ?_
          refine lv_iconst (v := 1) hx hb dX1_conclude_138 (by decide) ?_
          exact gretz hx hb hr hlocks rfl (ac8, re8, un8, ch8) (by show (_, _) = x_con ev (at_ j) (nI j) ac re un ch; rw [x_con, if_pos c1, if_pos c2, if_pos c6, if_neg c7, ← hL8]) hP hD hS dX1_conclude_139
      · refine lv_iconst (v := 0) hx hb dX1_conclude_100 (by decide) ?_
        exact gretz hx hb hr hlocks rfl (ac, re, un, ch) (by show (_, _) = x_con ev (at_ j) (nI j) ac re un ch; rw [x_con, if_pos c1, if_pos c2, if_neg c6]) hP hD hS dX1_conclude_101
  · refine lv_aload_n hx hb dX1_conclude_43 rfl (lv_at hl 3 rfl) ?_
    refine gX1_ac hx hb hts hown hK hP dX1_conclude_44 ?_
    refine lv_aload_n hx hb dX1_conclude_47 rfl (lv_at hl 3 rfl) ?_
    refine gX1_un hx hb hts hown hK hP dX1_conclude_48 ?_
    refine lv_ior hx hb dX1_conclude_51 ?_
    refine lv_iload_n hx hb dX1_conclude_52 rfl (lv_at hl 2 rfl) ?_
    refine lv_iand hx hb dX1_conclude_53 ?_
    refine lv_if_eq (tgt := 59) hx hb dX1_conclude_54 (by decide) (fun c9 => ?_) (fun c9 => ?_)
    · refine lv_iload hx hb dX1_conclude_59 (lv_at hl 0 rfl) ?_
      refine lv_iload_n hx hb dX1_conclude_61 rfl (lv_at hl 2 rfl) ?_
      refine lv_iand hx hb dX1_conclude_62 ?_
      refine lv_if_eq (tgt := 138) hx hb dX1_conclude_63 (by decide) (fun c10 => ?_) (fun c10 => ?_)
      · refine lv_iconst (v := 1) hx hb dX1_conclude_138 (by decide) ?_
        exact gretz hx hb hr hlocks rfl (ac, re, un, ch) (by show (_, _) = x_con ev (at_ j) (nI j) ac re un ch; rw [x_con, if_neg c1, if_pos c9, if_pos c10]) hP hD hS dX1_conclude_139
      · refine lv_aload_n hx hb dX1_conclude_66 rfl (lv_at hl 3 rfl) ?_
        refine lv_iload_n hx hb dX1_conclude_67 rfl (lv_at hl 4 rfl) ?_
        refine lv_iconst (v := 1) hx hb dX1_conclude_68 (by decide) ?_
        refine gcallv (As := [.int (nI j), .int 1]) (rest := []) ⟨hx, hb, hml, hown, hts⟩ (metX1_label l dC dI cI cB ad s.heap.size n ev at_ tg ac re un ch fa fr fu fg ft se kd rg (nI j) 1) (cw_X1_label hts ⟨Nat.le_of_ble_eq_true rfl, Nat.le_of_ble_eq_true rfl⟩) hK hP hD hS hA (ci := 0) (q0 := 0) rfl rfl hl.1 rfl (Nat.le_of_ble_eq_true rfl) dX1_conclude_69 ⟨Nat.le_of_ble_eq_true rfl, Nat.le_of_ble_eq_true rfl⟩ (fun u H locs hL11 hP hD hS => ?_)
        obtain ⟨ac11, re11, un11, ch11⟩ := u
        have hP : va_P (dC, dI) cl2 (wL cI cB ad n ev at_ tg ac11 re11 un11 ch11 fa fr fu fg ft se kd rg) H := hP
        have hD : va_D (va_A (wL cI cB ad n ev at_ tg ac re un ch fa fr fu fg ft se kd rg) sz) (wL cI cB ad n ev at_ tg ac11 re11 un11 ch11 fa fr fu fg ft se kd rg) := hD
        refine lv_goto (tgt := 138) hx hb dX1_conclude_72 (by decide) ?_
        refine lv_iconst (v := 1) hx hb dX1_conclude_138 (by decide) ?_
        exact gretz hx hb hr hlocks rfl (ac11, re11, un11, ch11) (by show (_, _) = x_con ev (at_ j) (nI j) ac re un ch; rw [x_con, if_neg c1, if_pos c9, if_neg c10, ← hL11]) hP hD hS dX1_conclude_139
    · refine lv_iconst (v := 0) hx hb dX1_conclude_57 (by decide) ?_
      exact gretz hx hb hr hlocks rfl (ac, re, un, ch) (by show (_, _) = x_con ev (at_ j) (nI j) ac re un ch; rw [x_con, if_neg c1, if_neg c9]) hP hD hS dX1_conclude_58

abbrev rm_X1_support : Room := { frames := 1, cells := 0, slots := 0, locals := 22 }
set_option maxHeartbeats 4000000 in
set_option maxRecDepth 100000 in
theorem metX1_support (l : Launch) (dC : Nat → ClassId) (dI : Nat → Nat → Nat) (cI cB : ClassId) (ad : Nat → Nat) (sz : Nat) (n : Int32) (ev : Int32) (at_ : Nat → Int32) (tg : Nat → Int32) (ac : Int32) (re : Int32) (un : Int32) (ch : Int32) (fa : Nat → Int32) (fr : Nat → Int32) (fu : Nat → Int32) (fg : Nat → Int32) (ft : Nat → Int32) (se : Int32) (kd : Nat → Int32) (rg : Nat → Int32) (j : Nat) (hj : j < 8) : Met l yX1_support (ws_ yX1_support cX1_support 7 (some .boolean)) rm_X1_support (gP (dC, dI) (tyL cI cB) (wL cI cB ad n ev at_ tg ac re un ch fa fr fu fg ft se kd rg) sz [.ref (ad 0), .int (nI j)]) (gQi (dC, dI) (fun (r : Int32) (u : Lb) => (r, u) = x_sup (at_ j) (nI j) ac re un ch) (wL cI cB ad n ev at_ tg ac re un ch fa fr fu fg ft se kd rg) (fun u => wL cI cB ad n ev at_ tg u.1 u.2.1 u.2.2.1 u.2.2.2 fa fr fu fg ft se kd rg) sz) 0 0 (va_A (wL cI cB ad n ev at_ tg ac re un ch fa fr fu fg ft se kd rg) sz) := by
  refine gstart (own := RX1) (by decide) rfl (Nat.le_of_ble_eq_true rfl) ?_
  intro p e s m below meth c hx hb hr hlocks hml hown hts hsz hP hK hD hA hnm ls hl
  have hS : va_S (va_A (wL cI cB ad n ev at_ tg ac re un ch fa fr fu fg ft se kd rg) sz) s.heap s.heap [] := va_S.rf
  have hl : lv_has ls 7 [(0, .ref (ad 0)), (1, .int (nI j))] := hl
  refine lv_aload_n hx hb dX1_support_0 rfl (lv_at hl 0 rfl) ?_
  refine gX1_at_ hx hb hts hown hK hP dX1_support_1 ?_
  refine lv_iload_n hx hb dX1_support_4 rfl (lv_at hl 1 rfl) ?_
  refine lX1_at_ hx hb hK hP j rfl hj dX1_support_5 ?_
  refine lv_istore_n (lv' := [(2, .int (at_ j)), (0, .ref (ad 0)), (1, .int (nI j))]) hx hb dX1_support_6 rfl hl (by decide) rfl (fun ls hl => ?_)
  refine lv_iload_n hx hb dX1_support_7 rfl (lv_at hl 0 rfl) ?_
  refine lv_aload_n hx hb dX1_support_8 rfl (lv_at hl 1 rfl) ?_
  refine gX1_ac hx hb hts hown hK hP dX1_support_9 ?_
  refine lv_aload_n hx hb dX1_support_12 rfl (lv_at hl 1 rfl) ?_
  refine gX1_re hx hb hts hown hK hP dX1_support_13 ?_
  refine lv_ior hx hb dX1_support_16 ?_
  refine lv_aload_n hx hb dX1_support_17 rfl (lv_at hl 1 rfl) ?_
  refine gX1_un hx hb hts hown hK hP dX1_support_18 ?_
  refine lv_ior hx hb dX1_support_21 ?_
  refine lv_iconst (v := (-1)) hx hb dX1_support_22 (by decide) ?_
  refine lv_ixor hx hb dX1_support_23 ?_
  refine lv_iand hx hb dX1_support_24 ?_
  refine tope (y := (x_opn (at_ j) ac re un)) rfl ?_
  refine lv_istore_n (lv' := [(3, .int (x_opn (at_ j) ac re un)), (2, .int (at_ j)), (0, .ref (ad 0)), (1, .int (nI j))]) hx hb dX1_support_25 rfl hl (by decide) rfl (fun ls hl => ?_)
  refine lv_aload_n hx hb dX1_support_26 rfl (lv_at hl 2 rfl) ?_
  refine gX1_ac hx hb hts hown hK hP dX1_support_27 ?_
  refine lv_iload_n hx hb dX1_support_30 rfl (lv_at hl 3 rfl) ?_
  refine lv_ishr hx hb dX1_support_31 ?_
  refine lv_iconst (v := 1) hx hb dX1_support_32 (by decide) ?_
  refine lv_iand hx hb dX1_support_33 ?_
  refine lv_if_eq (tgt := 76) hx hb dX1_support_34 (by decide) (fun c1 => ?_) (fun c1 => ?_)
  · refine lv_iconst (v := 0) hx hb dX1_support_76 (by decide) ?_
    refine lv_istore (lv' := [(4, .int 0), (3, .int (x_opn (at_ j) ac re un)), (2, .int (at_ j)), (0, .ref (ad 0)), (1, .int (nI j))]) hx hb dX1_support_77 hl (by decide) rfl (fun ls hl => ?_)
    refine lv_iconst (v := 0) hx hb dX1_support_79 (by decide) ?_
    refine lv_istore (lv' := [(5, .int 0), (4, .int 0), (3, .int (x_opn (at_ j) ac re un)), (2, .int (at_ j)), (0, .ref (ad 0)), (1, .int (nI j))]) hx hb dX1_support_80 hl (by decide) rfl (fun ls hl => ?_)
    refine lv_aload_n hx hb dX1_support_82 rfl (lv_at hl 4 rfl) ?_
    refine gX1_re hx hb hts hown hK hP dX1_support_83 ?_
    refine lv_iload_n hx hb dX1_support_86 rfl (lv_at hl 5 rfl) ?_
    refine lv_ishr hx hb dX1_support_87 ?_
    refine lv_iconst (v := 1) hx hb dX1_support_88 (by decide) ?_
    refine lv_iand hx hb dX1_support_89 ?_
    refine lv_if_eq (tgt := 104) hx hb dX1_support_90 (by decide) (fun c2 => ?_) (fun c2 => ?_)
    · refine lv_aload_n hx hb dX1_support_104 rfl (lv_at hl 4 rfl) ?_
      refine gX1_un hx hb hts hown hK hP dX1_support_105 ?_
      refine lv_iload_n hx hb dX1_support_108 rfl (lv_at hl 5 rfl) ?_
      refine lv_ishr hx hb dX1_support_109 ?_
      refine lv_iconst (v := 1) hx hb dX1_support_110 (by decide) ?_
      refine lv_iand hx hb dX1_support_111 ?_
      refine lv_if_eq (tgt := 129) hx hb dX1_support_112 (by decide) (fun c3 => ?_) (fun c3 => ?_)
      · refine lv_iconst (v := 1) hx hb dX1_support_129 (by decide) ?_
        exact gretz hx hb hr hlocks rfl (ac, re, un, ch) (by show (_, _) = x_sup (at_ j) (nI j) ac re un ch; rw [x_sup, if_pos c1, if_pos c2, if_pos c3]) hP hD hS dX1_support_130
      · refine lv_iload_n hx hb dX1_support_115 rfl (lv_at hl 3 rfl) ?_
        refine lv_aload_n hx hb dX1_support_116 rfl (lv_at hl 4 rfl) ?_
        refine gX1_un hx hb hts hown hK hP dX1_support_117 ?_
        refine lv_iand hx hb dX1_support_120 ?_
        refine lv_istore (lv' := [(4, .int ((at_ j) &&& un)), (5, .int 0), (3, .int (x_opn (at_ j) ac re un)), (2, .int (at_ j)), (0, .ref (ad 0)), (1, .int (nI j))]) hx hb dX1_support_121 hl (by decide) rfl (fun ls hl => ?_)
        refine lv_iconst (v := 2) hx hb dX1_support_123 (by decide) ?_
        refine lv_istore (lv' := [(5, .int 2), (4, .int ((at_ j) &&& un)), (3, .int (x_opn (at_ j) ac re un)), (2, .int (at_ j)), (0, .ref (ad 0)), (1, .int (nI j))]) hx hb dX1_support_124 hl (by decide) rfl (fun ls hl => ?_)
        refine lv_goto (tgt := 131) hx hb dX1_support_126 (by decide) ?_
        refine lv_iload hx hb dX1_support_131 (lv_at hl 1 rfl) ?_
        refine lv_if_eq (tgt := 138) hx hb dX1_support_133 (by decide) (fun c4 => ?_) (fun c4 => ?_)
        · refine lv_iload_n hx hb dX1_support_138 rfl (lv_at hl 2 rfl) ?_
          refine lv_if_ne (tgt := 144) hx hb dX1_support_139 (by decide) (fun c5 => ?_) (fun c5 => ?_)
          · refine lv_iload_n hx hb dX1_support_144 rfl (lv_at hl 2 rfl) ?_
            refine lv_iload_n hx hb dX1_support_145 rfl (lv_at hl 2 rfl) ?_
            refine lv_iconst (v := 1) hx hb dX1_support_146 (by decide) ?_
            refine lv_isub hx hb dX1_support_147 ?_
            refine lv_iand hx hb dX1_support_148 ?_
            refine lv_if_eq (tgt := 154) hx hb dX1_support_149 (by decide) (fun c6 => ?_) (fun c6 => ?_)
            · refine lv_iconst (v := 0) hx hb dX1_support_154 (by decide) ?_
              refine lv_istore (lv' := [(6, .int 0), (5, .int 2), (4, .int ((at_ j) &&& un)), (3, .int (x_opn (at_ j) ac re un)), (2, .int (at_ j)), (0, .ref (ad 0)), (1, .int (nI j))]) hx hb dX1_support_155 hl (by decide) rfl (fun ls hl => ?_)
              have loop157 : ∀ (fl : Nat) (k : Nat), k ≤ 7 → 7 < k + fl → x_lw (x_opn (at_ j) ac re un) 7 = x_lw (x_opn (at_ j) ac re un) (7 - k) → ∀ (H : Heap) (locs : List Loc), va_P (dC, dI) cl2 (wL cI cB ad n ev at_ tg ac re un ch fa fr fu fg ft se kd rg) H → va_D (va_A (wL cI cB ad n ev at_ tg ac re un ch fa fr fu fg ft se kd rg) sz) (wL cI cB ad n ev at_ tg ac re un ch fa fr fu fg ft se kd rg) → va_S (va_A (wL cI cB ad n ev at_ tg ac re un ch fa fr fu fg ft se kd rg) sz) s.heap H locs → ∀ (ls : Array Slot), lv_has ls 7 [(0, .ref (ad 0)), (3, .int (x_opn (at_ j) ac re un)), (5, .int 2), (6, .int (nI k))] → W p l e rm_X1_support s m ([.ref (ad 0), .int (nI j)] : List Value).toArray below meth c H locs 0 0 (MQ below (gQi (dC, dI) (fun (r : Int32) (u : Lb) => (r, u) = x_sup (at_ j) (nI j) ac re un ch) (wL cI cB ad n ev at_ tg ac re un ch fa fr fu fg ft se kd rg) (fun u => wL cI cB ad n ev at_ tg u.1 u.2.1 u.2.2.1 u.2.2.2 fa fr fu fg ft se kd rg) sz) ([.ref (ad 0), .int (nI j)] : List Value).toArray s 0 0 (va_A (wL cI cB ad n ev at_ tg ac re un ch fa fr fu fg ft se kd rg) sz)) (F0 m 157 ls []) := by
                intro fl
                induction fl with
                | zero =>
                  intro k hk hf hI
                  exact absurd hf (by omega)
                | succ fl ih157 =>
                  intro k hk hf hI H locs hP hD hS ls hl
                  refine lv_iload hx hb dX1_support_157 (lv_at hl 3 rfl) ?_
                  refine lv_bipush (v := 7) hx hb dX1_support_159 (by decide) ?_
                  refine lv_icmp_ge (tgt := 179) hx hb dX1_support_161 (by decide) (fun c7 => ?_) (fun c7 => ?_)
                  · have eL : x_lw (x_opn (at_ j) ac re un) 7 = k := hI.trans (lw_end (kge (by decide : (7 : Int32) = nI 7) (by decide) hk c7))
                    refine lv_aload_n hx hb dX1_support_179 rfl (lv_at hl 0 rfl) ?_
                    refine lv_iload hx hb dX1_support_180 (lv_at hl 3 rfl) ?_
                    refine lv_iload hx hb dX1_support_182 (lv_at hl 2 rfl) ?_
                    refine gcallv (As := [.int (nI k), .int 2]) (rest := []) ⟨hx, hb, hml, hown, hts⟩ (metX1_label l dC dI cI cB ad H.size n ev at_ tg ac re un ch fa fr fu fg ft se kd rg (nI k) 2) (cw_X1_label hts ⟨Nat.le_of_ble_eq_true rfl, Nat.le_of_ble_eq_true rfl⟩) hK hP hD hS hA (ci := 0) (q0 := 0) rfl rfl hl.1 rfl (Nat.le_of_ble_eq_true rfl) dX1_support_184 ⟨Nat.le_of_ble_eq_true rfl, Nat.le_of_ble_eq_true rfl⟩ (fun u H locs hL8 hP hD hS => ?_)
                    obtain ⟨ac8, re8, un8, ch8⟩ := u
                    have hP : va_P (dC, dI) cl2 (wL cI cB ad n ev at_ tg ac8 re8 un8 ch8 fa fr fu fg ft se kd rg) H := hP
                    have hD : va_D (va_A (wL cI cB ad n ev at_ tg ac re un ch fa fr fu fg ft se kd rg) sz) (wL cI cB ad n ev at_ tg ac8 re8 un8 ch8 fa fr fu fg ft se kd rg) := hD
                    refine lv_iconst (v := 1) hx hb dX1_support_187 (by decide) ?_
                    exact gretz hx hb hr hlocks rfl (ac8, re8, un8, ch8) (by show (_, _) = x_sup (at_ j) (nI j) ac re un ch; rw [x_sup, if_pos c1, if_pos c2, if_neg c3, x_sup2, if_pos c4, if_neg c5, if_pos c6, eL, ← hL8]) hP hD hS dX1_support_188
                  · have hlt : k < 7 := klt (by decide : (7 : Int32) = nI 7) (by omega) c7
                    refine lv_iload_n hx hb dX1_support_164 rfl (lv_at hl 1 rfl) ?_
                    refine lv_iload hx hb dX1_support_165 (lv_at hl 3 rfl) ?_
                    refine lv_ishr hx hb dX1_support_167 ?_
                    refine lv_iconst (v := 1) hx hb dX1_support_168 (by decide) ?_
                    refine lv_iand hx hb dX1_support_169 ?_
                    refine lv_if_ne (tgt := 179) hx hb dX1_support_170 (by decide) (fun c9 => ?_) (fun c9 => ?_)
                    · have eL : x_lw (x_opn (at_ j) ac re un) 7 = k := hI.trans (lw_hit hlt c9)
                      refine lv_aload_n hx hb dX1_support_179 rfl (lv_at hl 0 rfl) ?_
                      refine lv_iload hx hb dX1_support_180 (lv_at hl 3 rfl) ?_
                      refine lv_iload hx hb dX1_support_182 (lv_at hl 2 rfl) ?_
                      refine gcallv (As := [.int (nI k), .int 2]) (rest := []) ⟨hx, hb, hml, hown, hts⟩ (metX1_label l dC dI cI cB ad H.size n ev at_ tg ac re un ch fa fr fu fg ft se kd rg (nI k) 2) (cw_X1_label hts ⟨Nat.le_of_ble_eq_true rfl, Nat.le_of_ble_eq_true rfl⟩) hK hP hD hS hA (ci := 0) (q0 := 0) rfl rfl hl.1 rfl (Nat.le_of_ble_eq_true rfl) dX1_support_184 ⟨Nat.le_of_ble_eq_true rfl, Nat.le_of_ble_eq_true rfl⟩ (fun u H locs hL10 hP hD hS => ?_)
                      obtain ⟨ac10, re10, un10, ch10⟩ := u
                      have hP : va_P (dC, dI) cl2 (wL cI cB ad n ev at_ tg ac10 re10 un10 ch10 fa fr fu fg ft se kd rg) H := hP
                      have hD : va_D (va_A (wL cI cB ad n ev at_ tg ac re un ch fa fr fu fg ft se kd rg) sz) (wL cI cB ad n ev at_ tg ac10 re10 un10 ch10 fa fr fu fg ft se kd rg) := hD
                      refine lv_iconst (v := 1) hx hb dX1_support_187 (by decide) ?_
                      exact gretz hx hb hr hlocks rfl (ac10, re10, un10, ch10) (by show (_, _) = x_sup (at_ j) (nI j) ac re un ch; rw [x_sup, if_pos c1, if_pos c2, if_neg c3, x_sup2, if_pos c4, if_neg c5, if_pos c6, eL, ← hL10]) hP hD hS dX1_support_188
                    · refine lv_iinc (v := (nI (k + 1))) (lv' := [(6, .int (nI (k + 1))), (0, .ref (ad 0)), (3, .int (x_opn (at_ j) ac re un)), (5, .int 2)]) hx hb dX1_support_173 hl (k := 3) rfl (nI_1 k) (by decide) rfl (fun ls hl => ?_)
                      refine lv_goto (tgt := 157) hx hb dX1_support_176 (by decide) ?_
                      exact ih157 (k + 1) (by omega) (by omega) (hI.trans (lw_step hlt c9)) H locs hP hD hS ls (lv_sub hl [1, 2, 3, 0] rfl)
              exact loop157 8 0 (by omega) (by omega) rfl s.heap [] hP hD hS ls (lv_sub hl [5, 3, 1, 0] rfl)
            · refine lv_iconst (v := 1) hx hb dX1_support_152 (by decide) ?_
              exact gretz hx hb hr hlocks rfl (ac, re, un, ch) (by show (_, _) = x_sup (at_ j) (nI j) ac re un ch; rw [x_sup, if_pos c1, if_pos c2, if_neg c3, x_sup2, if_pos c4, if_neg c5, if_neg c6]) hP hD hS dX1_support_153
          · refine lv_iconst (v := 0) hx hb dX1_support_142 (by decide) ?_
            exact gretz hx hb hr hlocks rfl (ac, re, un, ch) (by show (_, _) = x_sup (at_ j) (nI j) ac re un ch; rw [x_sup, if_pos c1, if_pos c2, if_neg c3, x_sup2, if_pos c4, if_pos c5]) hP hD hS dX1_support_143
        · refine lv_iconst (v := 1) hx hb dX1_support_136 (by decide) ?_
          exact gretz hx hb hr hlocks rfl (ac, re, un, ch) (by show (_, _) = x_sup (at_ j) (nI j) ac re un ch; rw [x_sup, if_pos c1, if_pos c2, if_neg c3, x_sup2, if_neg c4]) hP hD hS dX1_support_137
    · refine lv_iload_n hx hb dX1_support_93 rfl (lv_at hl 3 rfl) ?_
      refine lv_aload_n hx hb dX1_support_94 rfl (lv_at hl 4 rfl) ?_
      refine gX1_ac hx hb hts hown hK hP dX1_support_95 ?_
      refine lv_iand hx hb dX1_support_98 ?_
      refine lv_istore (lv' := [(4, .int ((at_ j) &&& ac)), (5, .int 0), (3, .int (x_opn (at_ j) ac re un)), (2, .int (at_ j)), (0, .ref (ad 0)), (1, .int (nI j))]) hx hb dX1_support_99 hl (by decide) rfl (fun ls hl => ?_)
      refine lv_goto (tgt := 131) hx hb dX1_support_101 (by decide) ?_
      refine lv_iload hx hb dX1_support_131 (lv_at hl 0 rfl) ?_
      refine lv_if_eq (tgt := 138) hx hb dX1_support_133 (by decide) (fun c11 => ?_) (fun c11 => ?_)
      · refine lv_iload_n hx hb dX1_support_138 rfl (lv_at hl 2 rfl) ?_
        refine lv_if_ne (tgt := 144) hx hb dX1_support_139 (by decide) (fun c12 => ?_) (fun c12 => ?_)
        · refine lv_iload_n hx hb dX1_support_144 rfl (lv_at hl 2 rfl) ?_
          refine lv_iload_n hx hb dX1_support_145 rfl (lv_at hl 2 rfl) ?_
          refine lv_iconst (v := 1) hx hb dX1_support_146 (by decide) ?_
          refine lv_isub hx hb dX1_support_147 ?_
          refine lv_iand hx hb dX1_support_148 ?_
          refine lv_if_eq (tgt := 154) hx hb dX1_support_149 (by decide) (fun c13 => ?_) (fun c13 => ?_)
          · refine lv_iconst (v := 0) hx hb dX1_support_154 (by decide) ?_
            refine lv_istore (lv' := [(6, .int 0), (4, .int ((at_ j) &&& ac)), (5, .int 0), (3, .int (x_opn (at_ j) ac re un)), (2, .int (at_ j)), (0, .ref (ad 0)), (1, .int (nI j))]) hx hb dX1_support_155 hl (by decide) rfl (fun ls hl => ?_)
            have loop157 : ∀ (fl : Nat) (k : Nat), k ≤ 7 → 7 < k + fl → x_lw (x_opn (at_ j) ac re un) 7 = x_lw (x_opn (at_ j) ac re un) (7 - k) → ∀ (H : Heap) (locs : List Loc), va_P (dC, dI) cl2 (wL cI cB ad n ev at_ tg ac re un ch fa fr fu fg ft se kd rg) H → va_D (va_A (wL cI cB ad n ev at_ tg ac re un ch fa fr fu fg ft se kd rg) sz) (wL cI cB ad n ev at_ tg ac re un ch fa fr fu fg ft se kd rg) → va_S (va_A (wL cI cB ad n ev at_ tg ac re un ch fa fr fu fg ft se kd rg) sz) s.heap H locs → ∀ (ls : Array Slot), lv_has ls 7 [(0, .ref (ad 0)), (3, .int (x_opn (at_ j) ac re un)), (5, .int 0), (6, .int (nI k))] → W p l e rm_X1_support s m ([.ref (ad 0), .int (nI j)] : List Value).toArray below meth c H locs 0 0 (MQ below (gQi (dC, dI) (fun (r : Int32) (u : Lb) => (r, u) = x_sup (at_ j) (nI j) ac re un ch) (wL cI cB ad n ev at_ tg ac re un ch fa fr fu fg ft se kd rg) (fun u => wL cI cB ad n ev at_ tg u.1 u.2.1 u.2.2.1 u.2.2.2 fa fr fu fg ft se kd rg) sz) ([.ref (ad 0), .int (nI j)] : List Value).toArray s 0 0 (va_A (wL cI cB ad n ev at_ tg ac re un ch fa fr fu fg ft se kd rg) sz)) (F0 m 157 ls []) := by
              intro fl
              induction fl with
              | zero =>
                intro k hk hf hI
                exact absurd hf (by omega)
              | succ fl ih157 =>
                intro k hk hf hI H locs hP hD hS ls hl
                refine lv_iload hx hb dX1_support_157 (lv_at hl 3 rfl) ?_
                refine lv_bipush (v := 7) hx hb dX1_support_159 (by decide) ?_
                refine lv_icmp_ge (tgt := 179) hx hb dX1_support_161 (by decide) (fun c14 => ?_) (fun c14 => ?_)
                · have eL : x_lw (x_opn (at_ j) ac re un) 7 = k := hI.trans (lw_end (kge (by decide : (7 : Int32) = nI 7) (by decide) hk c14))
                  refine lv_aload_n hx hb dX1_support_179 rfl (lv_at hl 0 rfl) ?_
                  refine lv_iload hx hb dX1_support_180 (lv_at hl 3 rfl) ?_
                  refine lv_iload hx hb dX1_support_182 (lv_at hl 2 rfl) ?_
                  refine gcallv (As := [.int (nI k), .int 0]) (rest := []) ⟨hx, hb, hml, hown, hts⟩ (metX1_label l dC dI cI cB ad H.size n ev at_ tg ac re un ch fa fr fu fg ft se kd rg (nI k) 0) (cw_X1_label hts ⟨Nat.le_of_ble_eq_true rfl, Nat.le_of_ble_eq_true rfl⟩) hK hP hD hS hA (ci := 0) (q0 := 0) rfl rfl hl.1 rfl (Nat.le_of_ble_eq_true rfl) dX1_support_184 ⟨Nat.le_of_ble_eq_true rfl, Nat.le_of_ble_eq_true rfl⟩ (fun u H locs hL15 hP hD hS => ?_)
                  obtain ⟨ac15, re15, un15, ch15⟩ := u
                  have hP : va_P (dC, dI) cl2 (wL cI cB ad n ev at_ tg ac15 re15 un15 ch15 fa fr fu fg ft se kd rg) H := hP
                  have hD : va_D (va_A (wL cI cB ad n ev at_ tg ac re un ch fa fr fu fg ft se kd rg) sz) (wL cI cB ad n ev at_ tg ac15 re15 un15 ch15 fa fr fu fg ft se kd rg) := hD
                  refine lv_iconst (v := 1) hx hb dX1_support_187 (by decide) ?_
                  exact gretz hx hb hr hlocks rfl (ac15, re15, un15, ch15) (by show (_, _) = x_sup (at_ j) (nI j) ac re un ch; rw [x_sup, if_pos c1, if_neg c2, x_sup2, if_pos c11, if_neg c12, if_pos c13, eL, ← hL15]) hP hD hS dX1_support_188
                · have hlt : k < 7 := klt (by decide : (7 : Int32) = nI 7) (by omega) c14
                  refine lv_iload_n hx hb dX1_support_164 rfl (lv_at hl 1 rfl) ?_
                  refine lv_iload hx hb dX1_support_165 (lv_at hl 3 rfl) ?_
                  refine lv_ishr hx hb dX1_support_167 ?_
                  refine lv_iconst (v := 1) hx hb dX1_support_168 (by decide) ?_
                  refine lv_iand hx hb dX1_support_169 ?_
                  refine lv_if_ne (tgt := 179) hx hb dX1_support_170 (by decide) (fun c16 => ?_) (fun c16 => ?_)
                  · have eL : x_lw (x_opn (at_ j) ac re un) 7 = k := hI.trans (lw_hit hlt c16)
                    refine lv_aload_n hx hb dX1_support_179 rfl (lv_at hl 0 rfl) ?_
                    refine lv_iload hx hb dX1_support_180 (lv_at hl 3 rfl) ?_
                    refine lv_iload hx hb dX1_support_182 (lv_at hl 2 rfl) ?_
                    refine gcallv (As := [.int (nI k), .int 0]) (rest := []) ⟨hx, hb, hml, hown, hts⟩ (metX1_label l dC dI cI cB ad H.size n ev at_ tg ac re un ch fa fr fu fg ft se kd rg (nI k) 0) (cw_X1_label hts ⟨Nat.le_of_ble_eq_true rfl, Nat.le_of_ble_eq_true rfl⟩) hK hP hD hS hA (ci := 0) (q0 := 0) rfl rfl hl.1 rfl (Nat.le_of_ble_eq_true rfl) dX1_support_184 ⟨Nat.le_of_ble_eq_true rfl, Nat.le_of_ble_eq_true rfl⟩ (fun u H locs hL17 hP hD hS => ?_)
                    obtain ⟨ac17, re17, un17, ch17⟩ := u
                    have hP : va_P (dC, dI) cl2 (wL cI cB ad n ev at_ tg ac17 re17 un17 ch17 fa fr fu fg ft se kd rg) H := hP
                    have hD : va_D (va_A (wL cI cB ad n ev at_ tg ac re un ch fa fr fu fg ft se kd rg) sz) (wL cI cB ad n ev at_ tg ac17 re17 un17 ch17 fa fr fu fg ft se kd rg) := hD
                    refine lv_iconst (v := 1) hx hb dX1_support_187 (by decide) ?_
                    exact gretz hx hb hr hlocks rfl (ac17, re17, un17, ch17) (by show (_, _) = x_sup (at_ j) (nI j) ac re un ch; rw [x_sup, if_pos c1, if_neg c2, x_sup2, if_pos c11, if_neg c12, if_pos c13, eL, ← hL17]) hP hD hS dX1_support_188
                  · refine lv_iinc (v := (nI (k + 1))) (lv' := [(6, .int (nI (k + 1))), (0, .ref (ad 0)), (3, .int (x_opn (at_ j) ac re un)), (5, .int 0)]) hx hb dX1_support_173 hl (k := 3) rfl (nI_1 k) (by decide) rfl (fun ls hl => ?_)
                    refine lv_goto (tgt := 157) hx hb dX1_support_176 (by decide) ?_
                    exact ih157 (k + 1) (by omega) (by omega) (hI.trans (lw_step hlt c16)) H locs hP hD hS ls (lv_sub hl [1, 2, 3, 0] rfl)
            exact loop157 8 0 (by omega) (by omega) rfl s.heap [] hP hD hS ls (lv_sub hl [5, 3, 2, 0] rfl)
          · refine lv_iconst (v := 1) hx hb dX1_support_152 (by decide) ?_
            exact gretz hx hb hr hlocks rfl (ac, re, un, ch) (by show (_, _) = x_sup (at_ j) (nI j) ac re un ch; rw [x_sup, if_pos c1, if_neg c2, x_sup2, if_pos c11, if_neg c12, if_neg c13]) hP hD hS dX1_support_153
        · refine lv_iconst (v := 0) hx hb dX1_support_142 (by decide) ?_
          exact gretz hx hb hr hlocks rfl (ac, re, un, ch) (by show (_, _) = x_sup (at_ j) (nI j) ac re un ch; rw [x_sup, if_pos c1, if_neg c2, x_sup2, if_pos c11, if_pos c12]) hP hD hS dX1_support_143
      · refine lv_iconst (v := 1) hx hb dX1_support_136 (by decide) ?_
        exact gretz hx hb hr hlocks rfl (ac, re, un, ch) (by show (_, _) = x_sup (at_ j) (nI j) ac re un ch; rw [x_sup, if_pos c1, if_neg c2, x_sup2, if_neg c11]) hP hD hS dX1_support_137
  · refine lv_iload_n hx hb dX1_support_37 rfl (lv_at hl 1 rfl) ?_
    refine lv_aload_n hx hb dX1_support_38 rfl (lv_at hl 2 rfl) ?_
    refine gX1_ac hx hb hts hown hK hP dX1_support_39 ?_
    refine lv_aload_n hx hb dX1_support_42 rfl (lv_at hl 2 rfl) ?_
    refine gX1_un hx hb hts hown hK hP dX1_support_43 ?_
    refine lv_ior hx hb dX1_support_46 ?_
    refine lv_iand hx hb dX1_support_47 ?_
    refine lv_if_eq (tgt := 53) hx hb dX1_support_48 (by decide) (fun c18 => ?_) (fun c18 => ?_)
    · refine lv_iload_n hx hb dX1_support_53 rfl (lv_at hl 0 rfl) ?_
      refine lv_if_ne (tgt := 59) hx hb dX1_support_54 (by decide) (fun c19 => ?_) (fun c19 => ?_)
      · refine lv_aload_n hx hb dX1_support_59 rfl (lv_at hl 2 rfl) ?_
        refine lv_dup hx hb dX1_support_60 rfl ?_
        refine gX1_re hx hb hts hown hK hP dX1_support_61 ?_
        refine lv_iload_n hx hb dX1_support_64 rfl (lv_at hl 0 rfl) ?_
        refine lv_ior hx hb dX1_support_65 ?_
        refine pX1_re hx hb hts hown hK hP hD hS dX1_support_66 (fun H locs hP hD hS => ?_)
        refine lv_aload_n hx hb dX1_support_69 rfl (lv_at hl 2 rfl) ?_
        refine lv_iconst (v := 1) hx hb dX1_support_70 (by decide) ?_
        refine pX1_ch hx hb hts hown hK hP hD hS rfl rfl dX1_support_71 (fun H locs hP hD hS => ?_)
        refine lv_iconst (v := 1) hx hb dX1_support_74 (by decide) ?_
        exact gretz hx hb hr hlocks rfl (ac, (re ||| (x_opn (at_ j) ac re un)), un, 1) (by show (_, _) = x_sup (at_ j) (nI j) ac re un ch; rw [x_sup, if_neg c1, if_pos c18, if_neg c19]) hP hD hS dX1_support_75
      · refine lv_iconst (v := 1) hx hb dX1_support_57 (by decide) ?_
        exact gretz hx hb hr hlocks rfl (ac, re, un, ch) (by show (_, _) = x_sup (at_ j) (nI j) ac re un ch; rw [x_sup, if_neg c1, if_pos c18, if_pos c19]) hP hD hS dX1_support_58
    · refine lv_iconst (v := 0) hx hb dX1_support_51 (by decide) ?_
      exact gretz hx hb hr hlocks rfl (ac, re, un, ch) (by show (_, _) = x_sup (at_ j) (nI j) ac re un ch; rw [x_sup, if_neg c1, if_neg c18]) hP hD hS dX1_support_52

abbrev rm_X1_branch : Room := { frames := 0, cells := 0, slots := 0, locals := 0 }
set_option maxHeartbeats 4000000 in
set_option maxRecDepth 100000 in
theorem metX1_branch (l : Launch) (dC : Nat → ClassId) (dI : Nat → Nat → Nat) (cI cB : ClassId) (ad : Nat → Nat) (sz : Nat) (n : Int32) (ev : Int32) (at_ : Nat → Int32) (tg : Nat → Int32) (ac : Int32) (re : Int32) (un : Int32) (ch : Int32) (fa : Nat → Int32) (fr : Nat → Int32) (fu : Nat → Int32) (fg : Nat → Int32) (ft : Nat → Int32) (se : Int32) (kd : Nat → Int32) (rg : Nat → Int32) (t : Nat) (q : Nat) (d : Int32) (hd : d + 1 = nI t) (ht2 : t < 9) (hq : ac = nI q) (hq2 : q < 256) : Met l yX1_branch (ws_ yX1_branch cX1_branch 5 (some .int)) rm_X1_branch (gP (dC, dI) (tyL cI cB) (wL cI cB ad n ev at_ tg ac re un ch fa fr fu fg ft se kd rg) sz [.ref (ad 0), .int d]) (gQi (dC, dI) (fun (r : Int32) (u : (Nat → Int32) × (Nat → Int32) × (Nat → Int32) × (Nat → Int32) × (Nat → Int32) × (Nat → Int32) × (Nat → Int32)) => x_brn ev d t q ac re un fa fr fu fg ft kd rg r u) (wL cI cB ad n ev at_ tg ac re un ch fa fr fu fg ft se kd rg) (fun u => wL cI cB ad n ev at_ tg ac re un ch u.1 u.2.1 u.2.2.1 u.2.2.2.1 u.2.2.2.2.1 se u.2.2.2.2.2.1 u.2.2.2.2.2.2) sz) 0 0 (va_A (wL cI cB ad n ev at_ tg ac re un ch fa fr fu fg ft se kd rg) sz) := by
  refine gstart (own := RX1) (by decide) rfl (Nat.le_of_ble_eq_true rfl) ?_
  intro p e s m below meth c hx hb hr hlocks hml hown hts hsz hP hK hD hA hnm ls hl
  have hS : va_S (va_A (wL cI cB ad n ev at_ tg ac re un ch fa fr fu fg ft se kd rg) sz) s.heap s.heap [] := va_S.rf
  have hl : lv_has ls 5 [(0, .ref (ad 0)), (1, .int d)] := hl
  refine lv_aload_n hx hb dX1_branch_0 rfl (lv_at hl 0 rfl) ?_
  refine gX1_ev hx hb hts hown hK hP dX1_branch_1 ?_
  refine lv_aload_n hx hb dX1_branch_4 rfl (lv_at hl 0 rfl) ?_
  refine gX1_ac hx hb hts hown hK hP dX1_branch_5 ?_
  refine lv_aload_n hx hb dX1_branch_8 rfl (lv_at hl 0 rfl) ?_
  refine gX1_re hx hb hts hown hK hP dX1_branch_9 ?_
  refine lv_ior hx hb dX1_branch_12 ?_
  refine lv_aload_n hx hb dX1_branch_13 rfl (lv_at hl 0 rfl) ?_
  refine gX1_un hx hb hts hown hK hP dX1_branch_14 ?_
  refine lv_ior hx hb dX1_branch_17 ?_
  refine lv_iconst (v := (-1)) hx hb dX1_branch_18 (by decide) ?_
  refine lv_ixor hx hb dX1_branch_19 ?_
  refine lv_iand hx hb dX1_branch_20 ?_
  refine tope (y := (x_opn ev ac re un)) rfl ?_
  refine lv_istore_n (lv' := [(2, .int (x_opn ev ac re un)), (0, .ref (ad 0)), (1, .int d)]) hx hb dX1_branch_21 rfl hl (by decide) rfl (fun ls hl => ?_)
  refine lv_iload_n hx hb dX1_branch_22 rfl (lv_at hl 0 rfl) ?_
  refine lv_if_ne (tgt := 56) hx hb dX1_branch_23 (by decide) (fun c1 => ?_) (fun c1 => ?_)
  · refine lv_iconst (v := 0) hx hb dX1_branch_56 (by decide) ?_
    refine lv_istore_n (lv' := [(3, .int 0), (2, .int (x_opn ev ac re un)), (0, .ref (ad 0)), (1, .int d)]) hx hb dX1_branch_57 rfl hl (by decide) rfl (fun ls hl => ?_)
    have loop58 : ∀ (fl : Nat) (k : Nat), k ≤ 7 → 7 < k + fl → x_lw (x_opn ev ac re un) 7 = x_lw (x_opn ev ac re un) (7 - k) → ∀ (H : Heap) (locs : List Loc), va_P (dC, dI) cl2 (wL cI cB ad n ev at_ tg ac re un ch fa fr fu fg ft se kd rg) H → va_D (va_A (wL cI cB ad n ev at_ tg ac re un ch fa fr fu fg ft se kd rg) sz) (wL cI cB ad n ev at_ tg ac re un ch fa fr fu fg ft se kd rg) → va_S (va_A (wL cI cB ad n ev at_ tg ac re un ch fa fr fu fg ft se kd rg) sz) s.heap H locs → ∀ (ls : Array Slot), lv_has ls 5 [(0, .ref (ad 0)), (1, .int d), (2, .int (x_opn ev ac re un)), (3, .int (nI k))] → W p l e rm_X1_branch s m ([.ref (ad 0), .int d] : List Value).toArray below meth c H locs 0 0 (MQ below (gQi (dC, dI) (fun (r : Int32) (u : (Nat → Int32) × (Nat → Int32) × (Nat → Int32) × (Nat → Int32) × (Nat → Int32) × (Nat → Int32) × (Nat → Int32)) => x_brn ev d t q ac re un fa fr fu fg ft kd rg r u) (wL cI cB ad n ev at_ tg ac re un ch fa fr fu fg ft se kd rg) (fun u => wL cI cB ad n ev at_ tg ac re un ch u.1 u.2.1 u.2.2.1 u.2.2.2.1 u.2.2.2.2.1 se u.2.2.2.2.2.1 u.2.2.2.2.2.2) sz) ([.ref (ad 0), .int d] : List Value).toArray s 0 0 (va_A (wL cI cB ad n ev at_ tg ac re un ch fa fr fu fg ft se kd rg) sz)) (F0 m 58 ls []) := by
      intro fl
      induction fl with
      | zero =>
        intro k hk hf hI
        exact absurd hf (by omega)
      | succ fl ih58 =>
        intro k hk hf hI H locs hP hD hS ls hl
        refine lv_iload_n hx hb dX1_branch_58 rfl (lv_at hl 3 rfl) ?_
        refine lv_bipush (v := 7) hx hb dX1_branch_59 (by decide) ?_
        refine lv_icmp_ge (tgt := 78) hx hb dX1_branch_61 (by decide) (fun c2 => ?_) (fun c2 => ?_)
        · have eL : x_lw (x_opn ev ac re un) 7 = k := hI.trans (lw_end (kge (by decide : (7 : Int32) = nI 7) (by decide) hk c2))
          refine lv_iload_n hx hb dX1_branch_78 rfl (lv_at hl 1 rfl) ?_
          refine lv_iconst (v := 1) hx hb dX1_branch_79 (by decide) ?_
          refine lv_iadd hx hb dX1_branch_80 ?_
          refine tope (y := (nI t)) hd ?_
          refine lv_istore (lv' := [(4, .int (nI t)), (0, .ref (ad 0)), (1, .int d), (2, .int (x_opn ev ac re un)), (3, .int (nI k))]) hx hb dX1_branch_81 hl (by decide) rfl (fun ls hl => ?_)
          refine lv_aload_n hx hb dX1_branch_83 rfl (lv_at hl 1 rfl) ?_
          refine gX1_fg hx hb hts hown hK hP dX1_branch_84 ?_
          refine lv_iload hx hb dX1_branch_87 (lv_at hl 0 rfl) ?_
          refine lv_iload_n hx hb dX1_branch_89 rfl (lv_at hl 4 rfl) ?_
          refine lv_i2b (v := (nI k)) hx hb dX1_branch_90 (byte8 k (by omega)) ?_
          refine sX1_fg hx hb hK hP hD hS t rfl ht2 (y := (nI k)) (byte8s k (by omega)) dX1_branch_91 (fun H locs hP hD hS => ?_)
          refine lv_aload_n hx hb dX1_branch_92 rfl (lv_at hl 1 rfl) ?_
          refine gX1_ft hx hb hts hown hK hP dX1_branch_93 ?_
          refine lv_iload hx hb dX1_branch_96 (lv_at hl 0 rfl) ?_
          refine lv_iconst (v := 0) hx hb dX1_branch_98 (by decide) ?_
          refine sX1_ft hx hb hK hP hD hS t rfl ht2 (y := 0) (by decide) dX1_branch_99 (fun H locs hP hD hS => ?_)
          refine lv_aload_n hx hb dX1_branch_100 rfl (lv_at hl 1 rfl) ?_
          refine gX1_fa hx hb hts hown hK hP dX1_branch_101 ?_
          refine lv_iload hx hb dX1_branch_104 (lv_at hl 0 rfl) ?_
          refine lv_aload_n hx hb dX1_branch_106 rfl (lv_at hl 1 rfl) ?_
          refine gX1_ac hx hb hts hown hK hP dX1_branch_107 ?_
          refine sX1_fa hx hb hK hP hD hS t rfl ht2 dX1_branch_110 (fun H locs hP hD hS => ?_)
          refine lv_aload_n hx hb dX1_branch_111 rfl (lv_at hl 1 rfl) ?_
          refine gX1_fr hx hb hts hown hK hP dX1_branch_112 ?_
          refine lv_iload hx hb dX1_branch_115 (lv_at hl 0 rfl) ?_
          refine lv_aload_n hx hb dX1_branch_117 rfl (lv_at hl 1 rfl) ?_
          refine gX1_re hx hb hts hown hK hP dX1_branch_118 ?_
          refine sX1_fr hx hb hK hP hD hS t rfl ht2 dX1_branch_121 (fun H locs hP hD hS => ?_)
          refine lv_aload_n hx hb dX1_branch_122 rfl (lv_at hl 1 rfl) ?_
          refine gX1_fu hx hb hts hown hK hP dX1_branch_123 ?_
          refine lv_iload hx hb dX1_branch_126 (lv_at hl 0 rfl) ?_
          refine lv_aload_n hx hb dX1_branch_128 rfl (lv_at hl 1 rfl) ?_
          refine gX1_un hx hb hts hown hK hP dX1_branch_129 ?_
          refine sX1_fu hx hb hK hP hD hS t rfl ht2 dX1_branch_132 (fun H locs hP hD hS => ?_)
          refine lv_iload hx hb dX1_branch_133 (lv_at hl 0 rfl) ?_
          exact greti hx hb hr hlocks (upd fa t ac, upd fr t re, upd fu t un, upd fg t (nI k), upd ft t 0, kd, rg) (by rw [← eL]; exact Or.inr ⟨c1, rfl, rfl⟩) hP hD hS dX1_branch_135
        · have hlt : k < 7 := klt (by decide : (7 : Int32) = nI 7) (by omega) c2
          refine lv_iload_n hx hb dX1_branch_64 rfl (lv_at hl 2 rfl) ?_
          refine lv_iload_n hx hb dX1_branch_65 rfl (lv_at hl 3 rfl) ?_
          refine lv_ishr hx hb dX1_branch_66 ?_
          refine lv_iconst (v := 1) hx hb dX1_branch_67 (by decide) ?_
          refine lv_iand hx hb dX1_branch_68 ?_
          refine lv_if_ne (tgt := 78) hx hb dX1_branch_69 (by decide) (fun c3 => ?_) (fun c3 => ?_)
          · have eL : x_lw (x_opn ev ac re un) 7 = k := hI.trans (lw_hit hlt c3)
            refine lv_iload_n hx hb dX1_branch_78 rfl (lv_at hl 1 rfl) ?_
            refine lv_iconst (v := 1) hx hb dX1_branch_79 (by decide) ?_
            refine lv_iadd hx hb dX1_branch_80 ?_
            refine tope (y := (nI t)) hd ?_
            refine lv_istore (lv' := [(4, .int (nI t)), (0, .ref (ad 0)), (1, .int d), (2, .int (x_opn ev ac re un)), (3, .int (nI k))]) hx hb dX1_branch_81 hl (by decide) rfl (fun ls hl => ?_)
            refine lv_aload_n hx hb dX1_branch_83 rfl (lv_at hl 1 rfl) ?_
            refine gX1_fg hx hb hts hown hK hP dX1_branch_84 ?_
            refine lv_iload hx hb dX1_branch_87 (lv_at hl 0 rfl) ?_
            refine lv_iload_n hx hb dX1_branch_89 rfl (lv_at hl 4 rfl) ?_
            refine lv_i2b (v := (nI k)) hx hb dX1_branch_90 (byte8 k (by omega)) ?_
            refine sX1_fg hx hb hK hP hD hS t rfl ht2 (y := (nI k)) (byte8s k (by omega)) dX1_branch_91 (fun H locs hP hD hS => ?_)
            refine lv_aload_n hx hb dX1_branch_92 rfl (lv_at hl 1 rfl) ?_
            refine gX1_ft hx hb hts hown hK hP dX1_branch_93 ?_
            refine lv_iload hx hb dX1_branch_96 (lv_at hl 0 rfl) ?_
            refine lv_iconst (v := 0) hx hb dX1_branch_98 (by decide) ?_
            refine sX1_ft hx hb hK hP hD hS t rfl ht2 (y := 0) (by decide) dX1_branch_99 (fun H locs hP hD hS => ?_)
            refine lv_aload_n hx hb dX1_branch_100 rfl (lv_at hl 1 rfl) ?_
            refine gX1_fa hx hb hts hown hK hP dX1_branch_101 ?_
            refine lv_iload hx hb dX1_branch_104 (lv_at hl 0 rfl) ?_
            refine lv_aload_n hx hb dX1_branch_106 rfl (lv_at hl 1 rfl) ?_
            refine gX1_ac hx hb hts hown hK hP dX1_branch_107 ?_
            refine sX1_fa hx hb hK hP hD hS t rfl ht2 dX1_branch_110 (fun H locs hP hD hS => ?_)
            refine lv_aload_n hx hb dX1_branch_111 rfl (lv_at hl 1 rfl) ?_
            refine gX1_fr hx hb hts hown hK hP dX1_branch_112 ?_
            refine lv_iload hx hb dX1_branch_115 (lv_at hl 0 rfl) ?_
            refine lv_aload_n hx hb dX1_branch_117 rfl (lv_at hl 1 rfl) ?_
            refine gX1_re hx hb hts hown hK hP dX1_branch_118 ?_
            refine sX1_fr hx hb hK hP hD hS t rfl ht2 dX1_branch_121 (fun H locs hP hD hS => ?_)
            refine lv_aload_n hx hb dX1_branch_122 rfl (lv_at hl 1 rfl) ?_
            refine gX1_fu hx hb hts hown hK hP dX1_branch_123 ?_
            refine lv_iload hx hb dX1_branch_126 (lv_at hl 0 rfl) ?_
            refine lv_aload_n hx hb dX1_branch_128 rfl (lv_at hl 1 rfl) ?_
            refine gX1_un hx hb hts hown hK hP dX1_branch_129 ?_
            refine sX1_fu hx hb hK hP hD hS t rfl ht2 dX1_branch_132 (fun H locs hP hD hS => ?_)
            refine lv_iload hx hb dX1_branch_133 (lv_at hl 0 rfl) ?_
            exact greti hx hb hr hlocks (upd fa t ac, upd fr t re, upd fu t un, upd fg t (nI k), upd ft t 0, kd, rg) (by rw [← eL]; exact Or.inr ⟨c1, rfl, rfl⟩) hP hD hS dX1_branch_135
          · refine lv_iinc (v := (nI (k + 1))) (lv' := [(3, .int (nI (k + 1))), (0, .ref (ad 0)), (1, .int d), (2, .int (x_opn ev ac re un))]) hx hb dX1_branch_72 hl (k := 3) rfl (nI_1 k) (by decide) rfl (fun ls hl => ?_)
            refine lv_goto (tgt := 58) hx hb dX1_branch_75 (by decide) ?_
            exact ih58 (k + 1) (by omega) (by omega) (hI.trans (lw_step hlt c3)) H locs hP hD hS ls (lv_sub hl [1, 2, 3, 0] rfl)
    exact loop58 8 0 (by omega) (by omega) rfl s.heap [] hP hD hS ls (lv_sub hl [2, 3, 1, 0] rfl)
  · refine lv_aload_n hx hb dX1_branch_26 rfl (lv_at hl 1 rfl) ?_
    refine gX1_kd hx hb hts hown hK hP dX1_branch_27 ?_
    refine lv_aload_n hx hb dX1_branch_30 rfl (lv_at hl 1 rfl) ?_
    refine gX1_ac hx hb hts hown hK hP dX1_branch_31 ?_
    refine lv_iconst (v := 1) hx hb dX1_branch_34 (by decide) ?_
    refine sX1_kd hx hb hK hP hD hS q hq hq2 (y := 1) (by decide) dX1_branch_35 (fun H locs hP hD hS => ?_)
    refine lv_aload_n hx hb dX1_branch_36 rfl (lv_at hl 1 rfl) ?_
    refine gX1_rg hx hb hts hown hK hP dX1_branch_37 ?_
    refine lv_aload_n hx hb dX1_branch_40 rfl (lv_at hl 1 rfl) ?_
    refine gX1_ac hx hb hts hown hK hP dX1_branch_41 ?_
    refine lv_aload_n hx hb dX1_branch_44 rfl (lv_at hl 1 rfl) ?_
    refine gX1_ac hx hb hts hown hK hP dX1_branch_45 ?_
    refine lv_aload_n hx hb dX1_branch_48 rfl (lv_at hl 1 rfl) ?_
    refine gX1_re hx hb hts hown hK hP dX1_branch_49 ?_
    refine lv_ior hx hb dX1_branch_52 ?_
    refine sX1_rg hx hb hK hP hD hS q hq hq2 dX1_branch_53 (fun H locs hP hD hS => ?_)
    refine lv_iload_n hx hb dX1_branch_54 rfl (lv_at hl 2 rfl) ?_
    exact greti hx hb hr hlocks (fa, fr, fu, fg, ft, upd kd q 1, upd rg q (ac ||| re)) (by exact Or.inl ⟨c1, rfl, rfl⟩) hP hD hS dX1_branch_55
end
section
abbrev rm_X1_attack : Room := { frames := 1, cells := 0, slots := 0, locals := 21 }
set_option maxHeartbeats 4000000 in
set_option maxRecDepth 100000 in
theorem metX1_attack (l : Launch) (dC : Nat → ClassId) (dI : Nat → Nat → Nat) (cI cB : ClassId) (ad : Nat → Nat) (sz : Nat) (n : Int32) (ev : Int32) (at_ : Nat → Int32) (tg : Nat → Int32) (ac : Int32) (re : Int32) (un : Int32) (ch : Int32) (fa : Nat → Int32) (fr : Nat → Int32) (fu : Nat → Int32) (fg : Nat → Int32) (ft : Nat → Int32) (se : Int32) (kd : Nat → Int32) (rg : Nat → Int32) (ν : Nat) (a : Int32) (b : Int32) (hn : n = nI ν) (hv : ν ≤ 8) : Met l yX1_attack (ws_ yX1_attack cX1_attack 3 (some .int)) rm_X1_attack (gP (dC, dI) (tyL cI cB) (wL cI cB ad n ev at_ tg ac re un ch fa fr fu fg ft se kd rg) sz [.ref (ad 0), .int a, .int b]) (gQi (dC, dI) (fun (r : Int32) (u : (Nat → Int32) × (Nat → Int32) × Int32) => x_atk ν n at_ tg se a b r u) (wL cI cB ad n ev at_ tg ac re un ch fa fr fu fg ft se kd rg) (fun u => wL cI cB ad n ev u.1 u.2.1 ac re un ch fa fr fu fg ft u.2.2 kd rg) sz) 0 0 (va_A (wL cI cB ad n ev at_ tg ac re un ch fa fr fu fg ft se kd rg) sz) := by
  refine gstart (own := RX1) (by decide) rfl (Nat.le_of_ble_eq_true rfl) ?_
  intro p e s m below meth c hx hb hr hlocks hml hown hts hsz hP hK hD hA hnm ls hl
  have hS : va_S (va_A (wL cI cB ad n ev at_ tg ac re un ch fa fr fu fg ft se kd rg) sz) s.heap s.heap [] := va_S.rf
  have hl : lv_has ls 3 [(0, .ref (ad 0)), (1, .int a), (2, .int b)] := hl
  refine lv_aload_n hx hb dX1_attack_0 rfl (lv_at hl 0 rfl) ?_
  refine lv_iload_n hx hb dX1_attack_1 rfl (lv_at hl 1 rfl) ?_
  refine gcalli (As := [.int a]) (rest := []) ⟨hx, hb, hml, hown, hts⟩ (metX1_isArgument l dC dI cI cB ad s.heap.size n ev at_ tg ac re un ch fa fr fu fg ft se kd rg a) (cw_X1_isArgument hts ⟨Nat.le_of_ble_eq_true rfl, Nat.le_of_ble_eq_true rfl⟩) hK hP hD hS hA (ci := 0) (q0 := 0) rfl rfl hl.1 rfl (Nat.le_of_ble_eq_true rfl) dX1_attack_2 ⟨Nat.le_of_ble_eq_true rfl, Nat.le_of_ble_eq_true rfl⟩ (fun rha_ u H locs ha_ hP hD hS => ?_)
  refine lv_if_eq (tgt := 16) hx hb dX1_attack_5 (by decide) (fun c2 => ?_) (fun c2 => ?_)
  · refine lv_iconst (v := (-1)) hx hb dX1_attack_16 (by decide) ?_
    exact greti hx hb hr hlocks (at_, tg, se) (by exact Or.inl ⟨fun h => bI_z ha_ c2 h.1, rfl, rfl⟩) hP hD hS dX1_attack_17
  · refine lv_aload_n hx hb dX1_attack_8 rfl (lv_at hl 0 rfl) ?_
    refine lv_iload_n hx hb dX1_attack_9 rfl (lv_at hl 2 rfl) ?_
    refine gcalli (As := [.int b]) (rest := []) ⟨hx, hb, hml, hown, hts⟩ (metX1_isArgument l dC dI cI cB ad H.size n ev at_ tg ac re un ch fa fr fu fg ft se kd rg b) (cw_X1_isArgument hts ⟨Nat.le_of_ble_eq_true rfl, Nat.le_of_ble_eq_true rfl⟩) hK hP hD hS hA (ci := 0) (q0 := 0) rfl rfl hl.1 rfl (Nat.le_of_ble_eq_true rfl) dX1_attack_10 ⟨Nat.le_of_ble_eq_true rfl, Nat.le_of_ble_eq_true rfl⟩ (fun rhb_ u H locs hb_ hP hD hS => ?_)
    refine lv_if_ne (tgt := 18) hx hb dX1_attack_13 (by decide) (fun c4 => ?_) (fun c4 => ?_)
    · obtain ⟨i, hi, ei⟩ := argP_of hn (bI_n ha_ c2)
      obtain ⟨j, hj, ej⟩ := argP_of hn (bI_n hb_ c4)
      refine lv_aload_n hx hb dX1_attack_18 rfl (lv_at hl 0 rfl) ?_
      refine gX1_tg hx hb hts hown hK hP dX1_attack_19 ?_
      refine lv_iload_n hx hb dX1_attack_22 rfl (lv_at hl 1 rfl) ?_
      refine lX1_tg hx hb hK hP i ei (by omega) dX1_attack_23 ?_
      refine lv_iload_n hx hb dX1_attack_24 rfl (lv_at hl 2 rfl) ?_
      refine lv_ishr hx hb dX1_attack_25 ?_
      refine lv_iconst (v := 1) hx hb dX1_attack_26 (by decide) ?_
      refine lv_iand hx hb dX1_attack_27 ?_
      refine lv_if_eq (tgt := 33) hx hb dX1_attack_28 (by decide) (fun c5 => ?_) (fun c5 => ?_)
      · refine lv_aload_n hx hb dX1_attack_33 rfl (lv_at hl 0 rfl) ?_
        refine gX1_tg hx hb hts hown hK hP dX1_attack_34 ?_
        refine lv_iload_n hx hb dX1_attack_37 rfl (lv_at hl 1 rfl) ?_
        refine lv_dup2_11 hx hb dX1_attack_38 rfl rfl ?_
        refine lX1_tg hx hb hK hP i ei (by omega) dX1_attack_39 ?_
        refine lv_iconst (v := 1) hx hb dX1_attack_40 (by decide) ?_
        refine lv_iload_n hx hb dX1_attack_41 rfl (lv_at hl 2 rfl) ?_
        refine lv_ishl hx hb dX1_attack_42 ?_
        refine lv_ior hx hb dX1_attack_43 ?_
        refine sX1_tg hx hb hK hP hD hS i ei (by omega) dX1_attack_44 (fun H locs hP hD hS => ?_)
        refine lv_aload_n hx hb dX1_attack_45 rfl (lv_at hl 0 rfl) ?_
        refine gX1_at_ hx hb hts hown hK hP dX1_attack_46 ?_
        refine lv_iload_n hx hb dX1_attack_49 rfl (lv_at hl 2 rfl) ?_
        refine lv_dup2_11 hx hb dX1_attack_50 rfl rfl ?_
        refine lX1_at_ hx hb hK hP j ej (by omega) dX1_attack_51 ?_
        refine lv_iconst (v := 1) hx hb dX1_attack_52 (by decide) ?_
        refine lv_iload_n hx hb dX1_attack_53 rfl (lv_at hl 1 rfl) ?_
        refine lv_ishl hx hb dX1_attack_54 ?_
        refine lv_ior hx hb dX1_attack_55 ?_
        refine sX1_at_ hx hb hK hP hD hS j ej (by omega) dX1_attack_56 (fun H locs hP hD hS => ?_)
        refine lv_aload_n hx hb dX1_attack_57 rfl (lv_at hl 0 rfl) ?_
        refine lv_iconst (v := 0) hx hb dX1_attack_58 (by decide) ?_
        refine pX1_se hx hb hts hown hK hP hD hS rfl rfl dX1_attack_59 (fun H locs hP hD hS => ?_)
        refine lv_iconst (v := 1) hx hb dX1_attack_62 (by decide) ?_
        exact greti hx hb hr hlocks (upd at_ j ((at_ j) ||| (1 <<< (a &&& 31))), upd tg i ((tg i) ||| (1 <<< (b &&& 31))), 0) (by exact Or.inr ⟨i, j, hi, hj, ei, ej, Or.inr ⟨c5, rfl, rfl⟩⟩) hP hD hS dX1_attack_63
      · refine lv_iconst (v := 0) hx hb dX1_attack_31 (by decide) ?_
        exact greti hx hb hr hlocks (at_, tg, se) (by exact Or.inr ⟨i, j, hi, hj, ei, ej, Or.inl ⟨c5, rfl, rfl⟩⟩) hP hD hS dX1_attack_32
    · refine lv_iconst (v := (-1)) hx hb dX1_attack_16 (by decide) ?_
      exact greti hx hb hr hlocks (at_, tg, se) (by exact Or.inl ⟨fun h => bI_z hb_ c4 h.2, rfl, rfl⟩) hP hD hS dX1_attack_17

abbrev rm_X1_withdraw : Room := { frames := 1, cells := 0, slots := 0, locals := 21 }
set_option maxHeartbeats 4000000 in
set_option maxRecDepth 100000 in
theorem metX1_withdraw (l : Launch) (dC : Nat → ClassId) (dI : Nat → Nat → Nat) (cI cB : ClassId) (ad : Nat → Nat) (sz : Nat) (n : Int32) (ev : Int32) (at_ : Nat → Int32) (tg : Nat → Int32) (ac : Int32) (re : Int32) (un : Int32) (ch : Int32) (fa : Nat → Int32) (fr : Nat → Int32) (fu : Nat → Int32) (fg : Nat → Int32) (ft : Nat → Int32) (se : Int32) (kd : Nat → Int32) (rg : Nat → Int32) (ν : Nat) (a : Int32) (b : Int32) (hn : n = nI ν) (hv : ν ≤ 8) : Met l yX1_withdraw (ws_ yX1_withdraw cX1_withdraw 3 (some .int)) rm_X1_withdraw (gP (dC, dI) (tyL cI cB) (wL cI cB ad n ev at_ tg ac re un ch fa fr fu fg ft se kd rg) sz [.ref (ad 0), .int a, .int b]) (gQi (dC, dI) (fun (r : Int32) (u : (Nat → Int32) × (Nat → Int32) × Int32) => x_wdr ν n at_ tg se a b r u) (wL cI cB ad n ev at_ tg ac re un ch fa fr fu fg ft se kd rg) (fun u => wL cI cB ad n ev u.1 u.2.1 ac re un ch fa fr fu fg ft u.2.2 kd rg) sz) 0 0 (va_A (wL cI cB ad n ev at_ tg ac re un ch fa fr fu fg ft se kd rg) sz) := by
  refine gstart (own := RX1) (by decide) rfl (Nat.le_of_ble_eq_true rfl) ?_
  intro p e s m below meth c hx hb hr hlocks hml hown hts hsz hP hK hD hA hnm ls hl
  have hS : va_S (va_A (wL cI cB ad n ev at_ tg ac re un ch fa fr fu fg ft se kd rg) sz) s.heap s.heap [] := va_S.rf
  have hl : lv_has ls 3 [(0, .ref (ad 0)), (1, .int a), (2, .int b)] := hl
  refine lv_aload_n hx hb dX1_withdraw_0 rfl (lv_at hl 0 rfl) ?_
  refine lv_iload_n hx hb dX1_withdraw_1 rfl (lv_at hl 1 rfl) ?_
  refine gcalli (As := [.int a]) (rest := []) ⟨hx, hb, hml, hown, hts⟩ (metX1_isArgument l dC dI cI cB ad s.heap.size n ev at_ tg ac re un ch fa fr fu fg ft se kd rg a) (cw_X1_isArgument hts ⟨Nat.le_of_ble_eq_true rfl, Nat.le_of_ble_eq_true rfl⟩) hK hP hD hS hA (ci := 0) (q0 := 0) rfl rfl hl.1 rfl (Nat.le_of_ble_eq_true rfl) dX1_withdraw_2 ⟨Nat.le_of_ble_eq_true rfl, Nat.le_of_ble_eq_true rfl⟩ (fun rha_ u H locs ha_ hP hD hS => ?_)
  refine lv_if_eq (tgt := 16) hx hb dX1_withdraw_5 (by decide) (fun c2 => ?_) (fun c2 => ?_)
  · refine lv_iconst (v := (-1)) hx hb dX1_withdraw_16 (by decide) ?_
    exact greti hx hb hr hlocks (at_, tg, se) (by exact Or.inl ⟨fun h => bI_z ha_ c2 h.1, rfl, rfl⟩) hP hD hS dX1_withdraw_17
  · refine lv_aload_n hx hb dX1_withdraw_8 rfl (lv_at hl 0 rfl) ?_
    refine lv_iload_n hx hb dX1_withdraw_9 rfl (lv_at hl 2 rfl) ?_
    refine gcalli (As := [.int b]) (rest := []) ⟨hx, hb, hml, hown, hts⟩ (metX1_isArgument l dC dI cI cB ad H.size n ev at_ tg ac re un ch fa fr fu fg ft se kd rg b) (cw_X1_isArgument hts ⟨Nat.le_of_ble_eq_true rfl, Nat.le_of_ble_eq_true rfl⟩) hK hP hD hS hA (ci := 0) (q0 := 0) rfl rfl hl.1 rfl (Nat.le_of_ble_eq_true rfl) dX1_withdraw_10 ⟨Nat.le_of_ble_eq_true rfl, Nat.le_of_ble_eq_true rfl⟩ (fun rhb_ u H locs hb_ hP hD hS => ?_)
    refine lv_if_ne (tgt := 18) hx hb dX1_withdraw_13 (by decide) (fun c4 => ?_) (fun c4 => ?_)
    · obtain ⟨i, hi, ei⟩ := argP_of hn (bI_n ha_ c2)
      obtain ⟨j, hj, ej⟩ := argP_of hn (bI_n hb_ c4)
      refine lv_aload_n hx hb dX1_withdraw_18 rfl (lv_at hl 0 rfl) ?_
      refine gX1_tg hx hb hts hown hK hP dX1_withdraw_19 ?_
      refine lv_iload_n hx hb dX1_withdraw_22 rfl (lv_at hl 1 rfl) ?_
      refine lX1_tg hx hb hK hP i ei (by omega) dX1_withdraw_23 ?_
      refine lv_iload_n hx hb dX1_withdraw_24 rfl (lv_at hl 2 rfl) ?_
      refine lv_ishr hx hb dX1_withdraw_25 ?_
      refine lv_iconst (v := 1) hx hb dX1_withdraw_26 (by decide) ?_
      refine lv_iand hx hb dX1_withdraw_27 ?_
      refine lv_if_ne (tgt := 33) hx hb dX1_withdraw_28 (by decide) (fun c5 => ?_) (fun c5 => ?_)
      · refine lv_aload_n hx hb dX1_withdraw_33 rfl (lv_at hl 0 rfl) ?_
        refine gX1_tg hx hb hts hown hK hP dX1_withdraw_34 ?_
        refine lv_iload_n hx hb dX1_withdraw_37 rfl (lv_at hl 1 rfl) ?_
        refine lv_dup2_11 hx hb dX1_withdraw_38 rfl rfl ?_
        refine lX1_tg hx hb hK hP i ei (by omega) dX1_withdraw_39 ?_
        refine lv_iconst (v := 1) hx hb dX1_withdraw_40 (by decide) ?_
        refine lv_iload_n hx hb dX1_withdraw_41 rfl (lv_at hl 2 rfl) ?_
        refine lv_ishl hx hb dX1_withdraw_42 ?_
        refine lv_iconst (v := (-1)) hx hb dX1_withdraw_43 (by decide) ?_
        refine lv_ixor hx hb dX1_withdraw_44 ?_
        refine lv_iand hx hb dX1_withdraw_45 ?_
        refine sX1_tg hx hb hK hP hD hS i ei (by omega) dX1_withdraw_46 (fun H locs hP hD hS => ?_)
        refine lv_aload_n hx hb dX1_withdraw_47 rfl (lv_at hl 0 rfl) ?_
        refine gX1_at_ hx hb hts hown hK hP dX1_withdraw_48 ?_
        refine lv_iload_n hx hb dX1_withdraw_51 rfl (lv_at hl 2 rfl) ?_
        refine lv_dup2_11 hx hb dX1_withdraw_52 rfl rfl ?_
        refine lX1_at_ hx hb hK hP j ej (by omega) dX1_withdraw_53 ?_
        refine lv_iconst (v := 1) hx hb dX1_withdraw_54 (by decide) ?_
        refine lv_iload_n hx hb dX1_withdraw_55 rfl (lv_at hl 1 rfl) ?_
        refine lv_ishl hx hb dX1_withdraw_56 ?_
        refine lv_iconst (v := (-1)) hx hb dX1_withdraw_57 (by decide) ?_
        refine lv_ixor hx hb dX1_withdraw_58 ?_
        refine lv_iand hx hb dX1_withdraw_59 ?_
        refine sX1_at_ hx hb hK hP hD hS j ej (by omega) dX1_withdraw_60 (fun H locs hP hD hS => ?_)
        refine lv_aload_n hx hb dX1_withdraw_61 rfl (lv_at hl 0 rfl) ?_
        refine lv_iconst (v := 0) hx hb dX1_withdraw_62 (by decide) ?_
        refine pX1_se hx hb hts hown hK hP hD hS rfl rfl dX1_withdraw_63 (fun H locs hP hD hS => ?_)
        refine lv_iconst (v := 1) hx hb dX1_withdraw_66 (by decide) ?_
        exact greti hx hb hr hlocks (upd at_ j ((at_ j) &&& ((1 <<< (a &&& 31)) ^^^ (-1))), upd tg i ((tg i) &&& ((1 <<< (b &&& 31)) ^^^ (-1))), 0) (by exact Or.inr ⟨i, j, hi, hj, ei, ej, Or.inr ⟨c5, rfl, rfl⟩⟩) hP hD hS dX1_withdraw_67
      · refine lv_iconst (v := 0) hx hb dX1_withdraw_31 (by decide) ?_
        exact greti hx hb hr hlocks (at_, tg, se) (by exact Or.inr ⟨i, j, hi, hj, ei, ej, Or.inl ⟨c5, rfl, rfl⟩⟩) hP hD hS dX1_withdraw_32
    · refine lv_iconst (v := (-1)) hx hb dX1_withdraw_16 (by decide) ?_
      exact greti hx hb hr hlocks (at_, tg, se) (by exact Or.inl ⟨fun h => bI_z hb_ c4 h.2, rfl, rfl⟩) hP hD hS dX1_withdraw_17

abbrev rm_X1_attacks : Room := { frames := 1, cells := 0, slots := 0, locals := 21 }
set_option maxHeartbeats 4000000 in
set_option maxRecDepth 100000 in
theorem metX1_attacks (l : Launch) (dC : Nat → ClassId) (dI : Nat → Nat → Nat) (cI cB : ClassId) (ad : Nat → Nat) (sz : Nat) (n : Int32) (ev : Int32) (at_ : Nat → Int32) (tg : Nat → Int32) (ac : Int32) (re : Int32) (un : Int32) (ch : Int32) (fa : Nat → Int32) (fr : Nat → Int32) (fu : Nat → Int32) (fg : Nat → Int32) (ft : Nat → Int32) (se : Int32) (kd : Nat → Int32) (rg : Nat → Int32) (ν : Nat) (a : Int32) (b : Int32) (hn : n = nI ν) (hv : ν ≤ 8) : Met l yX1_attacks (ws_ yX1_attacks cX1_attacks 3 (some .boolean)) rm_X1_attacks (gP (dC, dI) (tyL cI cB) (wL cI cB ad n ev at_ tg ac re un ch fa fr fu fg ft se kd rg) sz [.ref (ad 0), .int a, .int b]) (gQi (dC, dI) (fun (r : Int32) (_ : Unit) => x_ats ν n tg a b r) (wL cI cB ad n ev at_ tg ac re un ch fa fr fu fg ft se kd rg) (fun _ => (wL cI cB ad n ev at_ tg ac re un ch fa fr fu fg ft se kd rg)) sz) 0 0 (va_A (wL cI cB ad n ev at_ tg ac re un ch fa fr fu fg ft se kd rg) sz) := by
  refine gstart (own := RX1) (by decide) rfl (Nat.le_of_ble_eq_true rfl) ?_
  intro p e s m below meth c hx hb hr hlocks hml hown hts hsz hP hK hD hA hnm ls hl
  have hS : va_S (va_A (wL cI cB ad n ev at_ tg ac re un ch fa fr fu fg ft se kd rg) sz) s.heap s.heap [] := va_S.rf
  have hl : lv_has ls 3 [(0, .ref (ad 0)), (1, .int a), (2, .int b)] := hl
  refine lv_aload_n hx hb dX1_attacks_0 rfl (lv_at hl 0 rfl) ?_
  refine lv_iload_n hx hb dX1_attacks_1 rfl (lv_at hl 1 rfl) ?_
  refine gcalli (As := [.int a]) (rest := []) ⟨hx, hb, hml, hown, hts⟩ (metX1_isArgument l dC dI cI cB ad s.heap.size n ev at_ tg ac re un ch fa fr fu fg ft se kd rg a) (cw_X1_isArgument hts ⟨Nat.le_of_ble_eq_true rfl, Nat.le_of_ble_eq_true rfl⟩) hK hP hD hS hA (ci := 0) (q0 := 0) rfl rfl hl.1 rfl (Nat.le_of_ble_eq_true rfl) dX1_attacks_2 ⟨Nat.le_of_ble_eq_true rfl, Nat.le_of_ble_eq_true rfl⟩ (fun rha_ u H locs ha_ hP hD hS => ?_)
  refine lv_if_eq (tgt := 16) hx hb dX1_attacks_5 (by decide) (fun c2 => ?_) (fun c2 => ?_)
  · refine lv_iconst (v := 0) hx hb dX1_attacks_16 (by decide) ?_
    exact gretz hx hb hr hlocks rfl () (by exact Or.inl ⟨fun h => bI_z ha_ c2 h.1, rfl⟩) hP hD hS dX1_attacks_17
  · refine lv_aload_n hx hb dX1_attacks_8 rfl (lv_at hl 0 rfl) ?_
    refine lv_iload_n hx hb dX1_attacks_9 rfl (lv_at hl 2 rfl) ?_
    refine gcalli (As := [.int b]) (rest := []) ⟨hx, hb, hml, hown, hts⟩ (metX1_isArgument l dC dI cI cB ad H.size n ev at_ tg ac re un ch fa fr fu fg ft se kd rg b) (cw_X1_isArgument hts ⟨Nat.le_of_ble_eq_true rfl, Nat.le_of_ble_eq_true rfl⟩) hK hP hD hS hA (ci := 0) (q0 := 0) rfl rfl hl.1 rfl (Nat.le_of_ble_eq_true rfl) dX1_attacks_10 ⟨Nat.le_of_ble_eq_true rfl, Nat.le_of_ble_eq_true rfl⟩ (fun rhb_ u H locs hb_ hP hD hS => ?_)
    refine lv_if_ne (tgt := 18) hx hb dX1_attacks_13 (by decide) (fun c4 => ?_) (fun c4 => ?_)
    · obtain ⟨i, hi, ei⟩ := argP_of hn (bI_n ha_ c2)
      obtain ⟨j, hj, ej⟩ := argP_of hn (bI_n hb_ c4)
      refine lv_aload_n hx hb dX1_attacks_18 rfl (lv_at hl 0 rfl) ?_
      refine gX1_tg hx hb hts hown hK hP dX1_attacks_19 ?_
      refine lv_iload_n hx hb dX1_attacks_22 rfl (lv_at hl 1 rfl) ?_
      refine lX1_tg hx hb hK hP i ei (by omega) dX1_attacks_23 ?_
      refine lv_iload_n hx hb dX1_attacks_24 rfl (lv_at hl 2 rfl) ?_
      refine lv_ishr hx hb dX1_attacks_25 ?_
      refine lv_iconst (v := 1) hx hb dX1_attacks_26 (by decide) ?_
      refine lv_iand hx hb dX1_attacks_27 ?_
      refine lv_if_eq (tgt := 35) hx hb dX1_attacks_28 (by decide) (fun c5 => ?_) (fun c5 => ?_)
      · refine lv_iconst (v := 0) hx hb dX1_attacks_35 (by decide) ?_
        exact gretz hx hb hr hlocks rfl () (by exact Or.inr ⟨i, j, hi, hj, ei, ej, (bI_f (fun h => h c5)).symm⟩) hP hD hS dX1_attacks_36
      · refine lv_iconst (v := 1) hx hb dX1_attacks_31 (by decide) ?_
        refine lv_goto (tgt := 36) hx hb dX1_attacks_32 (by decide) ?_
        exact gretz hx hb hr hlocks rfl () (by exact Or.inr ⟨i, j, hi, hj, ei, ej, (bI_t c5).symm⟩) hP hD hS dX1_attacks_36
    · refine lv_iconst (v := 0) hx hb dX1_attacks_16 (by decide) ?_
      exact gretz hx hb hr hlocks rfl () (by exact Or.inl ⟨fun h => bI_z hb_ c4 h.2, rfl⟩) hP hD hS dX1_attacks_17

abbrev rm_X1_clear : Room := { frames := 0, cells := 0, slots := 0, locals := 0 }
set_option maxHeartbeats 4000000 in
set_option maxRecDepth 100000 in
theorem metX1_clear (l : Launch) (dC : Nat → ClassId) (dI : Nat → Nat → Nat) (cI cB : ClassId) (ad : Nat → Nat) (sz : Nat) (n : Int32) (ev : Int32) (at_ : Nat → Int32) (tg : Nat → Int32) (ac : Int32) (re : Int32) (un : Int32) (ch : Int32) (fa : Nat → Int32) (fr : Nat → Int32) (fu : Nat → Int32) (fg : Nat → Int32) (ft : Nat → Int32) (se : Int32) (kd : Nat → Int32) (rg : Nat → Int32) (ν : Nat) (hn : n = nI ν) (hv : ν ≤ 8) : Met l yX1_clear (ws_ yX1_clear cX1_clear 4 (some .int)) rm_X1_clear (gP (dC, dI) (tyL cI cB) (wL cI cB ad n ev at_ tg ac re un ch fa fr fu fg ft se kd rg) sz [.ref (ad 0)]) (gQi (dC, dI) (fun (r : Int32) (u : (Nat → Int32) × (Nat → Int32) × Int32) => x_clr ν at_ tg r u) (wL cI cB ad n ev at_ tg ac re un ch fa fr fu fg ft se kd rg) (fun u => wL cI cB ad n ev u.1 u.2.1 ac re un ch fa fr fu fg ft u.2.2 kd rg) sz) 0 0 (va_A (wL cI cB ad n ev at_ tg ac re un ch fa fr fu fg ft se kd rg) sz) := by
  refine gstart (own := RX1) (by decide) rfl (Nat.le_of_ble_eq_true rfl) ?_
  intro p e s m below meth c hx hb hr hlocks hml hown hts hsz hP hK hD hA hnm ls hl
  have hS : va_S (va_A (wL cI cB ad n ev at_ tg ac re un ch fa fr fu fg ft se kd rg) sz) s.heap s.heap [] := va_S.rf
  have hl : lv_has ls 4 [(0, .ref (ad 0))] := hl
  refine lv_iconst (v := 0) hx hb dX1_clear_0 (by decide) ?_
  refine lv_istore_n (lv' := [(1, .int 0), (0, .ref (ad 0))]) hx hb dX1_clear_1 rfl hl (by decide) rfl (fun ls hl => ?_)
  refine lv_iconst (v := 0) hx hb dX1_clear_2 (by decide) ?_
  refine lv_istore_n (lv' := [(2, .int 0), (1, .int 0), (0, .ref (ad 0))]) hx hb dX1_clear_3 rfl hl (by decide) rfl (fun ls hl => ?_)
  have loop4 : ∀ (fl : Nat) (k : Nat) (x1 : Int32) (a1 : Nat → Int32) (t1 : Nat → Int32), k ≤ ν → ν < k + fl → x1 = x_sum tg ν k → (∀ j, j < k → a1 j = 0) → (∀ j, k ≤ j → a1 j = at_ j) → (∀ j, j < k → t1 j = 0) → (∀ j, k ≤ j → t1 j = tg j) → ∀ (H : Heap) (locs : List Loc), va_P (dC, dI) cl2 (wL cI cB ad n ev a1 t1 ac re un ch fa fr fu fg ft se kd rg) H → va_D (va_A (wL cI cB ad n ev at_ tg ac re un ch fa fr fu fg ft se kd rg) sz) (wL cI cB ad n ev a1 t1 ac re un ch fa fr fu fg ft se kd rg) → va_S (va_A (wL cI cB ad n ev at_ tg ac re un ch fa fr fu fg ft se kd rg) sz) s.heap H locs → ∀ (ls : Array Slot), lv_has ls 4 [(0, .ref (ad 0)), (1, .int x1), (2, .int (nI k))] → W p l e rm_X1_clear s m ([.ref (ad 0)] : List Value).toArray below meth c H locs 0 0 (MQ below (gQi (dC, dI) (fun (r : Int32) (u : (Nat → Int32) × (Nat → Int32) × Int32) => x_clr ν at_ tg r u) (wL cI cB ad n ev at_ tg ac re un ch fa fr fu fg ft se kd rg) (fun u => wL cI cB ad n ev u.1 u.2.1 ac re un ch fa fr fu fg ft u.2.2 kd rg) sz) ([.ref (ad 0)] : List Value).toArray s 0 0 (va_A (wL cI cB ad n ev at_ tg ac re un ch fa fr fu fg ft se kd rg) sz)) (F0 m 4 ls []) := by
    intro fl
    induction fl with
    | zero =>
      intro k x1 a1 t1 hk hf e1 hA1 hA2 hT1 hT2
      exact absurd hf (by omega)
    | succ fl ih4 =>
      intro k x1 a1 t1 hk hf e1 hA1 hA2 hT1 hT2 H locs hP hD hS ls hl
      refine lv_iload_n hx hb dX1_clear_4 rfl (lv_at hl 2 rfl) ?_
      refine lv_aload_n hx hb dX1_clear_5 rfl (lv_at hl 0 rfl) ?_
      refine gX1_n hx hb hts hown hK hP dX1_clear_6 ?_
      refine lv_icmp_ge (tgt := 61) hx hb dX1_clear_9 (by decide) (fun c1 => ?_) (fun c1 => ?_)
      · refine lv_aload_n hx hb dX1_clear_61 rfl (lv_at hl 0 rfl) ?_
        refine lv_iconst (v := 0) hx hb dX1_clear_62 (by decide) ?_
        refine pX1_se hx hb hts hown hK hP hD hS rfl rfl dX1_clear_63 (fun H locs hP hD hS => ?_)
        refine lv_iload_n hx hb dX1_clear_66 rfl (lv_at hl 1 rfl) ?_
        exact greti hx hb hr hlocks (a1, t1, 0) (by have h := kge hn (by omega) hk c1; subst h; exact ⟨e1, fun j hj => ⟨hA1 j hj, hT1 j hj⟩, fun j hj => ⟨hA2 j hj, hT2 j hj⟩, rfl⟩) hP hD hS dX1_clear_67
      · have hltk : k < ν := klt hn (by omega) c1
        refine lv_iconst (v := 0) hx hb dX1_clear_12 (by decide) ?_
        refine lv_istore_n (lv' := [(3, .int 0), (0, .ref (ad 0)), (1, .int x1), (2, .int (nI k))]) hx hb dX1_clear_13 rfl hl (by decide) rfl (fun ls hl => ?_)
        have loop14 : ∀ (fl : Nat) (i : Nat) (y1 : Int32), i ≤ ν → ν < i + fl → y1 = x_sum tg ν k + x_row (tg k) i → ∀ (H : Heap) (locs : List Loc), va_P (dC, dI) cl2 (wL cI cB ad n ev a1 t1 ac re un ch fa fr fu fg ft se kd rg) H → va_D (va_A (wL cI cB ad n ev at_ tg ac re un ch fa fr fu fg ft se kd rg) sz) (wL cI cB ad n ev a1 t1 ac re un ch fa fr fu fg ft se kd rg) → va_S (va_A (wL cI cB ad n ev at_ tg ac re un ch fa fr fu fg ft se kd rg) sz) s.heap H locs → ∀ (ls : Array Slot), lv_has ls 4 [(0, .ref (ad 0)), (1, .int y1), (2, .int (nI k)), (3, .int (nI i))] → W p l e rm_X1_clear s m ([.ref (ad 0)] : List Value).toArray below meth c H locs 0 0 (MQ below (gQi (dC, dI) (fun (r : Int32) (u : (Nat → Int32) × (Nat → Int32) × Int32) => x_clr ν at_ tg r u) (wL cI cB ad n ev at_ tg ac re un ch fa fr fu fg ft se kd rg) (fun u => wL cI cB ad n ev u.1 u.2.1 ac re un ch fa fr fu fg ft u.2.2 kd rg) sz) ([.ref (ad 0)] : List Value).toArray s 0 0 (va_A (wL cI cB ad n ev at_ tg ac re un ch fa fr fu fg ft se kd rg) sz)) (F0 m 14 ls []) := by
          intro fl
          induction fl with
          | zero =>
            intro i y1 hi hg e2
            exact absurd hg (by omega)
          | succ fl ih14 =>
            intro i y1 hi hg e2 H locs hP hD hS ls hl
            refine lv_iload_n hx hb dX1_clear_14 rfl (lv_at hl 3 rfl) ?_
            refine lv_aload_n hx hb dX1_clear_15 rfl (lv_at hl 0 rfl) ?_
            refine gX1_n hx hb hts hown hK hP dX1_clear_16 ?_
            refine lv_icmp_ge (tgt := 41) hx hb dX1_clear_19 (by decide) (fun c2 => ?_) (fun c2 => ?_)
            · refine lv_aload_n hx hb dX1_clear_41 rfl (lv_at hl 0 rfl) ?_
              refine gX1_tg hx hb hts hown hK hP dX1_clear_42 ?_
              refine lv_iload_n hx hb dX1_clear_45 rfl (lv_at hl 2 rfl) ?_
              refine lv_iconst (v := 0) hx hb dX1_clear_46 (by decide) ?_
              refine sX1_tg hx hb hK hP hD hS k rfl (by omega : k < 8) dX1_clear_47 (fun H locs hP hD hS => ?_)
              refine lv_aload_n hx hb dX1_clear_48 rfl (lv_at hl 0 rfl) ?_
              refine gX1_at_ hx hb hts hown hK hP dX1_clear_49 ?_
              refine lv_iload_n hx hb dX1_clear_52 rfl (lv_at hl 2 rfl) ?_
              refine lv_iconst (v := 0) hx hb dX1_clear_53 (by decide) ?_
              refine sX1_at_ hx hb hK hP hD hS k rfl (by omega : k < 8) dX1_clear_54 (fun H locs hP hD hS => ?_)
              refine lv_iinc (v := (nI (k + 1))) (lv' := [(2, .int (nI (k + 1))), (0, .ref (ad 0)), (1, .int y1), (3, .int (nI i))]) hx hb dX1_clear_55 hl (k := 2) rfl (nI_1 k) (by decide) rfl (fun ls hl => ?_)
              refine lv_goto (tgt := 4) hx hb dX1_clear_58 (by decide) ?_
              exact ih4 (k + 1) y1 (upd a1 k 0) (upd t1 k 0) (by omega) (by omega) (by have q := kge hn (by omega) hi c2; rw [x_sum, e2, q]) (clr_1 hA1) (clr_2 hA2) (clr_1 hT1) (clr_2 hT2) H locs hP hD hS ls (lv_sub hl [1, 2, 0] rfl)
            · have hlti : i < ν := klt hn (by omega) c2
              refine lv_iload_n hx hb dX1_clear_22 rfl (lv_at hl 1 rfl) ?_
              refine lv_aload_n hx hb dX1_clear_23 rfl (lv_at hl 0 rfl) ?_
              refine gX1_tg hx hb hts hown hK hP dX1_clear_24 ?_
              refine lv_iload_n hx hb dX1_clear_27 rfl (lv_at hl 2 rfl) ?_
              refine lX1_tg hx hb hK hP k rfl (by omega : k < 8) dX1_clear_28 ?_
              refine lv_iload_n hx hb dX1_clear_29 rfl (lv_at hl 3 rfl) ?_
              refine lv_ishr hx hb dX1_clear_30 ?_
              refine lv_iconst (v := 1) hx hb dX1_clear_31 (by decide) ?_
              refine lv_iand hx hb dX1_clear_32 ?_
              refine lv_iadd hx hb dX1_clear_33 ?_
              refine lv_istore_n (lv' := [(1, .int (y1 + (((t1 k) >>> ((nI i) &&& 31)) &&& 1))), (0, .ref (ad 0)), (2, .int (nI k)), (3, .int (nI i))]) hx hb dX1_clear_34 rfl hl (by decide) rfl (fun ls hl => ?_)
              refine lv_iinc (v := (nI (i + 1))) (lv' := [(3, .int (nI (i + 1))), (1, .int (y1 + (((t1 k) >>> ((nI i) &&& 31)) &&& 1))), (0, .ref (ad 0)), (2, .int (nI k))]) hx hb dX1_clear_35 hl (k := 3) rfl (nI_1 i) (by decide) rfl (fun ls hl => ?_)
              refine lv_goto (tgt := 14) hx hb dX1_clear_38 (by decide) ?_
              exact ih14 (i + 1) (y1 + (((t1 k) >>> ((nI i) &&& 31)) &&& 1)) (by omega) (by omega) (by rw [x_row, ← Int32.add_assoc, ← e2, hT2 k (Nat.le_refl k)]) H locs hP hD hS ls (lv_sub hl [2, 1, 3, 0] rfl)
        exact loop14 9 0 x1 (by omega) (by omega) (by rw [e1, x_row]; exact (Int32.add_zero _).symm) H locs hP hD hS ls (lv_sub hl [1, 2, 3, 0] rfl)
  exact loop4 9 0 0 at_ tg (by omega) (by omega) rfl lt_0 (fun _ _ => rfl) lt_0 (fun _ _ => rfl) s.heap [] hP hD hS ls (lv_sub hl [2, 1, 0] rfl)

abbrev rm_X1_compare : Room := { frames := 0, cells := 0, slots := 0, locals := 0 }
set_option maxHeartbeats 4000000 in
set_option maxRecDepth 100000 in
theorem metX1_compare (l : Launch) (dC : Nat → ClassId) (dI : Nat → Nat → Nat) (cI cB : ClassId) (ad : Nat → Nat) (sz : Nat) (n : Int32) (ev : Int32) (at_ : Nat → Int32) (tg : Nat → Int32) (ac : Int32) (re : Int32) (un : Int32) (ch : Int32) (fa : Nat → Int32) (fr : Nat → Int32) (fu : Nat → Int32) (fg : Nat → Int32) (ft : Nat → Int32) (se : Int32) (kd : Nat → Int32) (rg : Nat → Int32) (h01 : ∀ o, o < 256 → kd o = 0 ∨ kd o = 1) : Met l yX1_compare (ws_ yX1_compare cX1_compare 5 none) rm_X1_compare (gP (dC, dI) (tyL cI cB) (wL cI cB ad n ev at_ tg ac re un ch fa fr fu fg ft se kd rg) sz [.ref (ad 0)]) (gQv (dC, dI) (fun (u : Nat → Int32) => ∀ o, o < 256 → u o = cIf (kd o = 0) 0 (c_F ev kd rg o)) (wL cI cB ad n ev at_ tg ac re un ch fa fr fu fg ft se kd rg) (fun u => wL cI cB ad n ev at_ tg ac re un ch fa fr fu fg ft se u rg) sz) 0 0 (va_A (wL cI cB ad n ev at_ tg ac re un ch fa fr fu fg ft se kd rg) sz) := by
  refine gstart (own := RX1) (by decide) rfl (Nat.le_of_ble_eq_true rfl) ?_
  intro p e s m below meth c hx hb hr hlocks hml hown hts hsz hP hK hD hA hnm ls hl
  have hS : va_S (va_A (wL cI cB ad n ev at_ tg ac re un ch fa fr fu fg ft se kd rg) sz) s.heap s.heap [] := va_S.rf
  have hl : lv_has ls 5 [(0, .ref (ad 0))] := hl
  refine lv_iconst (v := 0) hx hb dX1_compare_0 (by decide) ?_
  refine lv_istore_n (lv' := [(1, .int 0), (0, .ref (ad 0))]) hx hb dX1_compare_1 rfl hl (by decide) rfl (fun ls hl => ?_)
  have loop2 : ∀ (fl : Nat) (k : Nat) (kc : Nat → Int32), k ≤ 256 → 256 < k + fl → c_I ev kd rg k kc → ∀ (H : Heap) (locs : List Loc), va_P (dC, dI) cl2 (wL cI cB ad n ev at_ tg ac re un ch fa fr fu fg ft se kc rg) H → va_D (va_A (wL cI cB ad n ev at_ tg ac re un ch fa fr fu fg ft se kd rg) sz) (wL cI cB ad n ev at_ tg ac re un ch fa fr fu fg ft se kc rg) → va_S (va_A (wL cI cB ad n ev at_ tg ac re un ch fa fr fu fg ft se kd rg) sz) s.heap H locs → ∀ (ls : Array Slot), lv_has ls 5 [(0, .ref (ad 0)), (1, .int (nI k))] → W p l e rm_X1_compare s m ([.ref (ad 0)] : List Value).toArray below meth c H locs 0 0 (MQ below (gQv (dC, dI) (fun (u : Nat → Int32) => ∀ o, o < 256 → u o = cIf (kd o = 0) 0 (c_F ev kd rg o)) (wL cI cB ad n ev at_ tg ac re un ch fa fr fu fg ft se kd rg) (fun u => wL cI cB ad n ev at_ tg ac re un ch fa fr fu fg ft se u rg) sz) ([.ref (ad 0)] : List Value).toArray s 0 0 (va_A (wL cI cB ad n ev at_ tg ac re un ch fa fr fu fg ft se kd rg) sz)) (F0 m 2 ls []) := by
    intro fl
    induction fl with
    | zero =>
      intro k kc hk hf hc
      exact absurd hf (by omega)
    | succ fl ih2 =>
      intro k kc hk hf hc H locs hP hD hS ls hl
      refine lv_iload_n hx hb dX1_compare_2 rfl (lv_at hl 1 rfl) ?_
      refine lv_sipush (v := 256) hx hb dX1_compare_3 (by decide) ?_
      refine lv_icmp_ge (tgt := 172) hx hb dX1_compare_6 (by decide) (fun c1 => ?_) (fun c1 => ?_)
      · exact gretv hx hb hr hlocks kc (by have q := kge (by decide : (256 : Int32) = nI 256) (by decide) hk c1; rw [q] at hc; exact hc.2.1) hP hD hS dX1_compare_172
      · have hltk : k < 256 := klt (by decide : (256 : Int32) = nI 256) (by omega) c1
        refine lv_aload_n hx hb dX1_compare_9 rfl (lv_at hl 0 rfl) ?_
        refine gX1_kd hx hb hts hown hK hP dX1_compare_10 ?_
        refine lv_iload_n hx hb dX1_compare_13 rfl (lv_at hl 1 rfl) ?_
        refine lX1_kd hx hb hK hP k rfl hltk dX1_compare_14 ?_
        refine lv_if_ne (tgt := 21) hx hb dX1_compare_15 (by decide) (fun c2 => ?_) (fun c2 => ?_)
        · refine lv_iconst (v := 1) hx hb dX1_compare_21 (by decide) ?_
          refine lv_istore_n (lv' := [(2, .int 1), (0, .ref (ad 0)), (1, .int (nI k))]) hx hb dX1_compare_22 rfl hl (by decide) rfl (fun ls hl => ?_)
          refine lv_iconst (v := 1) hx hb dX1_compare_23 (by decide) ?_
          refine lv_istore_n (lv' := [(3, .int 1), (2, .int 1), (0, .ref (ad 0)), (1, .int (nI k))]) hx hb dX1_compare_24 rfl hl (by decide) rfl (fun ls hl => ?_)
          refine lv_iconst (v := 0) hx hb dX1_compare_25 (by decide) ?_
          refine lv_istore (lv' := [(4, .int 0), (3, .int 1), (2, .int 1), (0, .ref (ad 0)), (1, .int (nI k))]) hx hb dX1_compare_26 hl (by decide) rfl (fun ls hl => ?_)
          have loop28 : ∀ (fl : Nat) (i : Nat) (x2 : Int32) (x3 : Int32), i ≤ 256 → 256 < i + fl → x2 = bI (∀ o, o < i → ¬ c_hl kd k o) → x3 = bI (∀ o, o < i → ¬ c_hw kd rg k o) → ∀ (H : Heap) (locs : List Loc), va_P (dC, dI) cl2 (wL cI cB ad n ev at_ tg ac re un ch fa fr fu fg ft se kc rg) H → va_D (va_A (wL cI cB ad n ev at_ tg ac re un ch fa fr fu fg ft se kd rg) sz) (wL cI cB ad n ev at_ tg ac re un ch fa fr fu fg ft se kc rg) → va_S (va_A (wL cI cB ad n ev at_ tg ac re un ch fa fr fu fg ft se kd rg) sz) s.heap H locs → ∀ (ls : Array Slot), lv_has ls 5 [(0, .ref (ad 0)), (1, .int (nI k)), (2, .int x2), (3, .int x3), (4, .int (nI i))] → W p l e rm_X1_compare s m ([.ref (ad 0)] : List Value).toArray below meth c H locs 0 0 (MQ below (gQv (dC, dI) (fun (u : Nat → Int32) => ∀ o, o < 256 → u o = cIf (kd o = 0) 0 (c_F ev kd rg o)) (wL cI cB ad n ev at_ tg ac re un ch fa fr fu fg ft se kd rg) (fun u => wL cI cB ad n ev at_ tg ac re un ch fa fr fu fg ft se u rg) sz) ([.ref (ad 0)] : List Value).toArray s 0 0 (va_A (wL cI cB ad n ev at_ tg ac re un ch fa fr fu fg ft se kd rg) sz)) (F0 m 28 ls []) := by
            intro fl
            induction fl with
            | zero =>
              intro i x2 x3 hi hg e2 e3
              exact absurd hg (by omega)
            | succ fl ih28 =>
              intro i x2 x3 hi hg e2 e3 H locs hP hD hS ls hl
              refine lv_iload hx hb dX1_compare_28 (lv_at hl 4 rfl) ?_
              refine lv_sipush (v := 256) hx hb dX1_compare_30 (by decide) ?_
              refine lv_icmp_ge (tgt := 109) hx hb dX1_compare_33 (by decide) (fun c3 => ?_) (fun c3 => ?_)
              · refine lv_aload_n hx hb dX1_compare_109 rfl (lv_at hl 0 rfl) ?_
                refine gX1_kd hx hb hts hown hK hP dX1_compare_110 ?_
                refine lv_iload_n hx hb dX1_compare_113 rfl (lv_at hl 1 rfl) ?_
                refine lX1_kd hx hb hK hP k rfl hltk dX1_compare_114 ?_
                refine tope (y := (kd k)) (hc.2.2 k (Nat.le_refl k)) ?_
                refine lv_istore (lv' := [(4, .int (kd k)), (0, .ref (ad 0)), (1, .int (nI k)), (2, .int x2), (3, .int x3)]) hx hb dX1_compare_115 hl (by decide) rfl (fun ls hl => ?_)
                refine lv_iload_n hx hb dX1_compare_117 rfl (lv_at hl 3 rfl) ?_
                refine lv_if_eq (tgt := 127) hx hb dX1_compare_118 (by decide) (fun c4 => ?_) (fun c4 => ?_)
                · refine lv_aload_n hx hb dX1_compare_127 rfl (lv_at hl 1 rfl) ?_
                  refine gX1_rg hx hb hts hown hK hP dX1_compare_128 ?_
                  refine lv_iload_n hx hb dX1_compare_131 rfl (lv_at hl 2 rfl) ?_
                  refine lX1_rg hx hb hK hP k rfl hltk dX1_compare_132 ?_
                  refine lv_aload_n hx hb dX1_compare_133 rfl (lv_at hl 1 rfl) ?_
                  refine gX1_ev hx hb hts hown hK hP dX1_compare_134 ?_
                  refine lv_icmp_ne (tgt := 146) hx hb dX1_compare_137 (by decide) (fun c5 => ?_) (fun c5 => ?_)
                  · refine lv_iload_n hx hb dX1_compare_146 rfl (lv_at hl 4 rfl) ?_
                    refine lv_if_eq (tgt := 157) hx hb dX1_compare_147 (by decide) (fun c6 => ?_) (fun c6 => ?_)
                    · refine lv_aload_n hx hb dX1_compare_157 rfl (lv_at hl 1 rfl) ?_
                      refine gX1_kd hx hb hts hown hK hP dX1_compare_158 ?_
                      refine lv_iload_n hx hb dX1_compare_161 rfl (lv_at hl 2 rfl) ?_
                      refine lv_iload hx hb dX1_compare_162 (lv_at hl 0 rfl) ?_
                      refine lv_i2b (v := ((kd k).toInt8.toInt32)) hx hb dX1_compare_164 rfl ?_
                      refine sX1_kd hx hb hK hP hD hS k rfl hltk (y := ((kd k).toInt8.toInt32)) (pk_vb _) dX1_compare_165 (fun H locs hP hD hS => ?_)
                      refine lv_iinc (v := (nI (k + 1))) (lv' := [(1, .int (nI (k + 1))), (4, .int (kd k)), (0, .ref (ad 0)), (2, .int x2), (3, .int x3)]) hx hb dX1_compare_166 hl (k := 2) rfl (nI_1 k) (by decide) rfl (fun ls hl => ?_)
                      refine lv_goto (tgt := 2) hx hb dX1_compare_169 (by decide) ?_
                      exact ih2 (k + 1) (upd kc k ((kd k).toInt8.toInt32)) (by omega) (by omega) (c_Iw h01 hltk hc c2 (by have q := kge (by decide : (256 : Int32) = nI 256) (by decide) hi c3; rw [q] at e2 e3; rw [c_F, c_or_f (bI_z e3 c6), c_or_f c5, c_or_f (bI_z e2 c4)])) H locs hP hD hS ls (lv_sub hl [2, 0] rfl)
                    · refine lv_iload hx hb dX1_compare_150 (lv_at hl 0 rfl) ?_
                      refine lv_bipush (v := 8) hx hb dX1_compare_152 (by decide) ?_
                      refine lv_ior hx hb dX1_compare_154 ?_
                      refine lv_istore (lv' := [(4, .int ((kd k) ||| 8)), (0, .ref (ad 0)), (1, .int (nI k)), (2, .int x2), (3, .int x3)]) hx hb dX1_compare_155 hl (by decide) rfl (fun ls hl => ?_)
                      refine lv_aload_n hx hb dX1_compare_157 rfl (lv_at hl 1 rfl) ?_
                      refine gX1_kd hx hb hts hown hK hP dX1_compare_158 ?_
                      refine lv_iload_n hx hb dX1_compare_161 rfl (lv_at hl 2 rfl) ?_
                      refine lv_iload hx hb dX1_compare_162 (lv_at hl 0 rfl) ?_
                      refine lv_i2b (v := (((kd k) ||| 8).toInt8.toInt32)) hx hb dX1_compare_164 rfl ?_
                      refine sX1_kd hx hb hK hP hD hS k rfl hltk (y := (((kd k) ||| 8).toInt8.toInt32)) (pk_vb _) dX1_compare_165 (fun H locs hP hD hS => ?_)
                      refine lv_iinc (v := (nI (k + 1))) (lv' := [(1, .int (nI (k + 1))), (4, .int ((kd k) ||| 8)), (0, .ref (ad 0)), (2, .int x2), (3, .int x3)]) hx hb dX1_compare_166 hl (k := 2) rfl (nI_1 k) (by decide) rfl (fun ls hl => ?_)
                      refine lv_goto (tgt := 2) hx hb dX1_compare_169 (by decide) ?_
                      exact ih2 (k + 1) (upd kc k (((kd k) ||| 8).toInt8.toInt32)) (by omega) (by omega) (c_Iw h01 hltk hc c2 (by have q := kge (by decide : (256 : Int32) = nI 256) (by decide) hi c3; rw [q] at e2 e3; rw [c_F, c_or_t (bI_n e3 c6), c_or_f c5, c_or_f (bI_z e2 c4)])) H locs hP hD hS ls (lv_sub hl [2, 0] rfl)
                  · refine lv_iload hx hb dX1_compare_140 (lv_at hl 0 rfl) ?_
                    refine lv_iconst (v := 4) hx hb dX1_compare_142 (by decide) ?_
                    refine lv_ior hx hb dX1_compare_143 ?_
                    refine lv_istore (lv' := [(4, .int ((kd k) ||| 4)), (0, .ref (ad 0)), (1, .int (nI k)), (2, .int x2), (3, .int x3)]) hx hb dX1_compare_144 hl (by decide) rfl (fun ls hl => ?_)
                    refine lv_iload_n hx hb dX1_compare_146 rfl (lv_at hl 4 rfl) ?_
                    refine lv_if_eq (tgt := 157) hx hb dX1_compare_147 (by decide) (fun c7 => ?_) (fun c7 => ?_)
                    · refine lv_aload_n hx hb dX1_compare_157 rfl (lv_at hl 1 rfl) ?_
                      refine gX1_kd hx hb hts hown hK hP dX1_compare_158 ?_
                      refine lv_iload_n hx hb dX1_compare_161 rfl (lv_at hl 2 rfl) ?_
                      refine lv_iload hx hb dX1_compare_162 (lv_at hl 0 rfl) ?_
                      refine lv_i2b (v := (((kd k) ||| 4).toInt8.toInt32)) hx hb dX1_compare_164 rfl ?_
                      refine sX1_kd hx hb hK hP hD hS k rfl hltk (y := (((kd k) ||| 4).toInt8.toInt32)) (pk_vb _) dX1_compare_165 (fun H locs hP hD hS => ?_)
                      refine lv_iinc (v := (nI (k + 1))) (lv' := [(1, .int (nI (k + 1))), (4, .int ((kd k) ||| 4)), (0, .ref (ad 0)), (2, .int x2), (3, .int x3)]) hx hb dX1_compare_166 hl (k := 2) rfl (nI_1 k) (by decide) rfl (fun ls hl => ?_)
                      refine lv_goto (tgt := 2) hx hb dX1_compare_169 (by decide) ?_
                      exact ih2 (k + 1) (upd kc k (((kd k) ||| 4).toInt8.toInt32)) (by omega) (by omega) (c_Iw h01 hltk hc c2 (by have q := kge (by decide : (256 : Int32) = nI 256) (by decide) hi c3; rw [q] at e2 e3; rw [c_F, c_or_f (bI_z e3 c7), c_or_t c5, c_or_f (bI_z e2 c4)])) H locs hP hD hS ls (lv_sub hl [2, 0] rfl)
                    · refine lv_iload hx hb dX1_compare_150 (lv_at hl 0 rfl) ?_
                      refine lv_bipush (v := 8) hx hb dX1_compare_152 (by decide) ?_
                      refine lv_ior hx hb dX1_compare_154 ?_
                      refine lv_istore (lv' := [(4, .int (((kd k) ||| 4) ||| 8)), (0, .ref (ad 0)), (1, .int (nI k)), (2, .int x2), (3, .int x3)]) hx hb dX1_compare_155 hl (by decide) rfl (fun ls hl => ?_)
                      refine lv_aload_n hx hb dX1_compare_157 rfl (lv_at hl 1 rfl) ?_
                      refine gX1_kd hx hb hts hown hK hP dX1_compare_158 ?_
                      refine lv_iload_n hx hb dX1_compare_161 rfl (lv_at hl 2 rfl) ?_
                      refine lv_iload hx hb dX1_compare_162 (lv_at hl 0 rfl) ?_
                      refine lv_i2b (v := ((((kd k) ||| 4) ||| 8).toInt8.toInt32)) hx hb dX1_compare_164 rfl ?_
                      refine sX1_kd hx hb hK hP hD hS k rfl hltk (y := ((((kd k) ||| 4) ||| 8).toInt8.toInt32)) (pk_vb _) dX1_compare_165 (fun H locs hP hD hS => ?_)
                      refine lv_iinc (v := (nI (k + 1))) (lv' := [(1, .int (nI (k + 1))), (4, .int (((kd k) ||| 4) ||| 8)), (0, .ref (ad 0)), (2, .int x2), (3, .int x3)]) hx hb dX1_compare_166 hl (k := 2) rfl (nI_1 k) (by decide) rfl (fun ls hl => ?_)
                      refine lv_goto (tgt := 2) hx hb dX1_compare_169 (by decide) ?_
                      exact ih2 (k + 1) (upd kc k ((((kd k) ||| 4) ||| 8).toInt8.toInt32)) (by omega) (by omega) (c_Iw h01 hltk hc c2 (by have q := kge (by decide : (256 : Int32) = nI 256) (by decide) hi c3; rw [q] at e2 e3; rw [c_F, c_or_t (bI_n e3 c7), c_or_t c5, c_or_f (bI_z e2 c4)])) H locs hP hD hS ls (lv_sub hl [2, 0] rfl)
                · refine lv_iload hx hb dX1_compare_121 (lv_at hl 0 rfl) ?_
                  refine lv_iconst (v := 2) hx hb dX1_compare_123 (by decide) ?_
                  refine lv_ior hx hb dX1_compare_124 ?_
                  refine lv_istore (lv' := [(4, .int ((kd k) ||| 2)), (0, .ref (ad 0)), (1, .int (nI k)), (2, .int x2), (3, .int x3)]) hx hb dX1_compare_125 hl (by decide) rfl (fun ls hl => ?_)
                  refine lv_aload_n hx hb dX1_compare_127 rfl (lv_at hl 1 rfl) ?_
                  refine gX1_rg hx hb hts hown hK hP dX1_compare_128 ?_
                  refine lv_iload_n hx hb dX1_compare_131 rfl (lv_at hl 2 rfl) ?_
                  refine lX1_rg hx hb hK hP k rfl hltk dX1_compare_132 ?_
                  refine lv_aload_n hx hb dX1_compare_133 rfl (lv_at hl 1 rfl) ?_
                  refine gX1_ev hx hb hts hown hK hP dX1_compare_134 ?_
                  refine lv_icmp_ne (tgt := 146) hx hb dX1_compare_137 (by decide) (fun c8 => ?_) (fun c8 => ?_)
                  · refine lv_iload_n hx hb dX1_compare_146 rfl (lv_at hl 4 rfl) ?_
                    refine lv_if_eq (tgt := 157) hx hb dX1_compare_147 (by decide) (fun c9 => ?_) (fun c9 => ?_)
                    · refine lv_aload_n hx hb dX1_compare_157 rfl (lv_at hl 1 rfl) ?_
                      refine gX1_kd hx hb hts hown hK hP dX1_compare_158 ?_
                      refine lv_iload_n hx hb dX1_compare_161 rfl (lv_at hl 2 rfl) ?_
                      refine lv_iload hx hb dX1_compare_162 (lv_at hl 0 rfl) ?_
                      refine lv_i2b (v := (((kd k) ||| 2).toInt8.toInt32)) hx hb dX1_compare_164 rfl ?_
                      refine sX1_kd hx hb hK hP hD hS k rfl hltk (y := (((kd k) ||| 2).toInt8.toInt32)) (pk_vb _) dX1_compare_165 (fun H locs hP hD hS => ?_)
                      refine lv_iinc (v := (nI (k + 1))) (lv' := [(1, .int (nI (k + 1))), (4, .int ((kd k) ||| 2)), (0, .ref (ad 0)), (2, .int x2), (3, .int x3)]) hx hb dX1_compare_166 hl (k := 2) rfl (nI_1 k) (by decide) rfl (fun ls hl => ?_)
                      refine lv_goto (tgt := 2) hx hb dX1_compare_169 (by decide) ?_
                      exact ih2 (k + 1) (upd kc k (((kd k) ||| 2).toInt8.toInt32)) (by omega) (by omega) (c_Iw h01 hltk hc c2 (by have q := kge (by decide : (256 : Int32) = nI 256) (by decide) hi c3; rw [q] at e2 e3; rw [c_F, c_or_f (bI_z e3 c9), c_or_f c8, c_or_t (bI_n e2 c4)])) H locs hP hD hS ls (lv_sub hl [2, 0] rfl)
                    · refine lv_iload hx hb dX1_compare_150 (lv_at hl 0 rfl) ?_
                      refine lv_bipush (v := 8) hx hb dX1_compare_152 (by decide) ?_
                      refine lv_ior hx hb dX1_compare_154 ?_
                      refine lv_istore (lv' := [(4, .int (((kd k) ||| 2) ||| 8)), (0, .ref (ad 0)), (1, .int (nI k)), (2, .int x2), (3, .int x3)]) hx hb dX1_compare_155 hl (by decide) rfl (fun ls hl => ?_)
                      refine lv_aload_n hx hb dX1_compare_157 rfl (lv_at hl 1 rfl) ?_
                      refine gX1_kd hx hb hts hown hK hP dX1_compare_158 ?_
                      refine lv_iload_n hx hb dX1_compare_161 rfl (lv_at hl 2 rfl) ?_
                      refine lv_iload hx hb dX1_compare_162 (lv_at hl 0 rfl) ?_
                      refine lv_i2b (v := ((((kd k) ||| 2) ||| 8).toInt8.toInt32)) hx hb dX1_compare_164 rfl ?_
                      refine sX1_kd hx hb hK hP hD hS k rfl hltk (y := ((((kd k) ||| 2) ||| 8).toInt8.toInt32)) (pk_vb _) dX1_compare_165 (fun H locs hP hD hS => ?_)
                      refine lv_iinc (v := (nI (k + 1))) (lv' := [(1, .int (nI (k + 1))), (4, .int (((kd k) ||| 2) ||| 8)), (0, .ref (ad 0)), (2, .int x2), (3, .int x3)]) hx hb dX1_compare_166 hl (k := 2) rfl (nI_1 k) (by decide) rfl (fun ls hl => ?_)
                      refine lv_goto (tgt := 2) hx hb dX1_compare_169 (by decide) ?_
                      exact ih2 (k + 1) (upd kc k ((((kd k) ||| 2) ||| 8).toInt8.toInt32)) (by omega) (by omega) (c_Iw h01 hltk hc c2 (by have q := kge (by decide : (256 : Int32) = nI 256) (by decide) hi c3; rw [q] at e2 e3; rw [c_F, c_or_t (bI_n e3 c9), c_or_f c8, c_or_t (bI_n e2 c4)])) H locs hP hD hS ls (lv_sub hl [2, 0] rfl)
                  · refine lv_iload hx hb dX1_compare_140 (lv_at hl 0 rfl) ?_
                    refine lv_iconst (v := 4) hx hb dX1_compare_142 (by decide) ?_
                    refine lv_ior hx hb dX1_compare_143 ?_
                    refine lv_istore (lv' := [(4, .int (((kd k) ||| 2) ||| 4)), (0, .ref (ad 0)), (1, .int (nI k)), (2, .int x2), (3, .int x3)]) hx hb dX1_compare_144 hl (by decide) rfl (fun ls hl => ?_)
                    refine lv_iload_n hx hb dX1_compare_146 rfl (lv_at hl 4 rfl) ?_
                    refine lv_if_eq (tgt := 157) hx hb dX1_compare_147 (by decide) (fun c10 => ?_) (fun c10 => ?_)
                    · refine lv_aload_n hx hb dX1_compare_157 rfl (lv_at hl 1 rfl) ?_
                      refine gX1_kd hx hb hts hown hK hP dX1_compare_158 ?_
                      refine lv_iload_n hx hb dX1_compare_161 rfl (lv_at hl 2 rfl) ?_
                      refine lv_iload hx hb dX1_compare_162 (lv_at hl 0 rfl) ?_
                      refine lv_i2b (v := ((((kd k) ||| 2) ||| 4).toInt8.toInt32)) hx hb dX1_compare_164 rfl ?_
                      refine sX1_kd hx hb hK hP hD hS k rfl hltk (y := ((((kd k) ||| 2) ||| 4).toInt8.toInt32)) (pk_vb _) dX1_compare_165 (fun H locs hP hD hS => ?_)
                      refine lv_iinc (v := (nI (k + 1))) (lv' := [(1, .int (nI (k + 1))), (4, .int (((kd k) ||| 2) ||| 4)), (0, .ref (ad 0)), (2, .int x2), (3, .int x3)]) hx hb dX1_compare_166 hl (k := 2) rfl (nI_1 k) (by decide) rfl (fun ls hl => ?_)
                      refine lv_goto (tgt := 2) hx hb dX1_compare_169 (by decide) ?_
                      exact ih2 (k + 1) (upd kc k ((((kd k) ||| 2) ||| 4).toInt8.toInt32)) (by omega) (by omega) (c_Iw h01 hltk hc c2 (by have q := kge (by decide : (256 : Int32) = nI 256) (by decide) hi c3; rw [q] at e2 e3; rw [c_F, c_or_f (bI_z e3 c10), c_or_t c8, c_or_t (bI_n e2 c4)])) H locs hP hD hS ls (lv_sub hl [2, 0] rfl)
                    · refine lv_iload hx hb dX1_compare_150 (lv_at hl 0 rfl) ?_
                      refine lv_bipush (v := 8) hx hb dX1_compare_152 (by decide) ?_
                      refine lv_ior hx hb dX1_compare_154 ?_
                      refine lv_istore (lv' := [(4, .int ((((kd k) ||| 2) ||| 4) ||| 8)), (0, .ref (ad 0)), (1, .int (nI k)), (2, .int x2), (3, .int x3)]) hx hb dX1_compare_155 hl (by decide) rfl (fun ls hl => ?_)
                      refine lv_aload_n hx hb dX1_compare_157 rfl (lv_at hl 1 rfl) ?_
                      refine gX1_kd hx hb hts hown hK hP dX1_compare_158 ?_
                      refine lv_iload_n hx hb dX1_compare_161 rfl (lv_at hl 2 rfl) ?_
                      refine lv_iload hx hb dX1_compare_162 (lv_at hl 0 rfl) ?_
                      refine lv_i2b (v := (((((kd k) ||| 2) ||| 4) ||| 8).toInt8.toInt32)) hx hb dX1_compare_164 rfl ?_
                      refine sX1_kd hx hb hK hP hD hS k rfl hltk (y := (((((kd k) ||| 2) ||| 4) ||| 8).toInt8.toInt32)) (pk_vb _) dX1_compare_165 (fun H locs hP hD hS => ?_)
                      refine lv_iinc (v := (nI (k + 1))) (lv' := [(1, .int (nI (k + 1))), (4, .int ((((kd k) ||| 2) ||| 4) ||| 8)), (0, .ref (ad 0)), (2, .int x2), (3, .int x3)]) hx hb dX1_compare_166 hl (k := 2) rfl (nI_1 k) (by decide) rfl (fun ls hl => ?_)
                      refine lv_goto (tgt := 2) hx hb dX1_compare_169 (by decide) ?_
                      exact ih2 (k + 1) (upd kc k (((((kd k) ||| 2) ||| 4) ||| 8).toInt8.toInt32)) (by omega) (by omega) (c_Iw h01 hltk hc c2 (by have q := kge (by decide : (256 : Int32) = nI 256) (by decide) hi c3; rw [q] at e2 e3; rw [c_F, c_or_t (bI_n e3 c10), c_or_t c8, c_or_t (bI_n e2 c4)])) H locs hP hD hS ls (lv_sub hl [2, 0] rfl)
              · have hlti : i < 256 := klt (by decide : (256 : Int32) = nI 256) (by omega) c3
                refine lv_aload_n hx hb dX1_compare_36 rfl (lv_at hl 0 rfl) ?_
                refine gX1_kd hx hb hts hown hK hP dX1_compare_37 ?_
                refine lv_iload hx hb dX1_compare_40 (lv_at hl 4 rfl) ?_
                refine lX1_kd hx hb hK hP i rfl hlti dX1_compare_42 ?_
                refine lv_if_ne (tgt := 49) hx hb dX1_compare_43 (by decide) (fun c11 => ?_) (fun c11 => ?_)
                · refine lv_iload hx hb dX1_compare_49 (lv_at hl 4 rfl) ?_
                  refine lv_iload_n hx hb dX1_compare_51 rfl (lv_at hl 1 rfl) ?_
                  refine lv_icmp_eq (tgt := 66) hx hb dX1_compare_52 (by decide) (fun c12 => ?_) (fun c12 => ?_)
                  · refine lv_aload_n hx hb dX1_compare_66 rfl (lv_at hl 0 rfl) ?_
                    refine gX1_rg hx hb hts hown hK hP dX1_compare_67 ?_
                    refine lv_iload hx hb dX1_compare_70 (lv_at hl 4 rfl) ?_
                    refine lX1_rg hx hb hK hP i rfl hlti dX1_compare_72 ?_
                    refine lv_aload_n hx hb dX1_compare_73 rfl (lv_at hl 0 rfl) ?_
                    refine gX1_rg hx hb hts hown hK hP dX1_compare_74 ?_
                    refine lv_iload_n hx hb dX1_compare_77 rfl (lv_at hl 1 rfl) ?_
                    refine lX1_rg hx hb hK hP k rfl hltk dX1_compare_78 ?_
                    refine lv_icmp_eq (tgt := 103) hx hb dX1_compare_79 (by decide) (fun c13 => ?_) (fun c13 => ?_)
                    · refine lv_iinc (v := (nI (i + 1))) (lv' := [(4, .int (nI (i + 1))), (0, .ref (ad 0)), (1, .int (nI k)), (2, .int x2), (3, .int x3)]) hx hb dX1_compare_103 hl (k := 4) rfl (nI_1 i) (by decide) rfl (fun ls hl => ?_)
                      refine lv_goto (tgt := 28) hx hb dX1_compare_106 (by decide) ?_
                      exact ih28 (i + 1) x2 x3 (by omega) (by omega) (by rw [e2, bI_iff]; exact ⟨fun h => lt_s h (fun q => q.2.1 c12), fun h o ho => h o (by omega)⟩) (by rw [e3, bI_iff]; exact ⟨fun h => lt_s h (fun q => q.2.1 c13), fun h o ho => h o (by omega)⟩) H locs hP hD hS ls (lv_sub hl [1, 2, 3, 4, 0] rfl)
                    · refine lv_aload_n hx hb dX1_compare_82 rfl (lv_at hl 0 rfl) ?_
                      refine gX1_rg hx hb hts hown hK hP dX1_compare_83 ?_
                      refine lv_iload_n hx hb dX1_compare_86 rfl (lv_at hl 1 rfl) ?_
                      refine lX1_rg hx hb hK hP k rfl hltk dX1_compare_87 ?_
                      refine lv_aload_n hx hb dX1_compare_88 rfl (lv_at hl 0 rfl) ?_
                      refine gX1_rg hx hb hts hown hK hP dX1_compare_89 ?_
                      refine lv_iload hx hb dX1_compare_92 (lv_at hl 4 rfl) ?_
                      refine lX1_rg hx hb hK hP i rfl hlti dX1_compare_94 ?_
                      refine lv_iconst (v := (-1)) hx hb dX1_compare_95 (by decide) ?_
                      refine lv_ixor hx hb dX1_compare_96 ?_
                      refine lv_iand hx hb dX1_compare_97 ?_
                      refine lv_if_ne (tgt := 103) hx hb dX1_compare_98 (by decide) (fun c14 => ?_) (fun c14 => ?_)
                      · refine lv_iinc (v := (nI (i + 1))) (lv' := [(4, .int (nI (i + 1))), (0, .ref (ad 0)), (1, .int (nI k)), (2, .int x2), (3, .int x3)]) hx hb dX1_compare_103 hl (k := 4) rfl (nI_1 i) (by decide) rfl (fun ls hl => ?_)
                        refine lv_goto (tgt := 28) hx hb dX1_compare_106 (by decide) ?_
                        exact ih28 (i + 1) x2 x3 (by omega) (by omega) (by rw [e2, bI_iff]; exact ⟨fun h => lt_s h (fun q => q.2.1 c12), fun h o ho => h o (by omega)⟩) (by rw [e3, bI_iff]; exact ⟨fun h => lt_s h (fun q => c14 q.2.2), fun h o ho => h o (by omega)⟩) H locs hP hD hS ls (lv_sub hl [1, 2, 3, 4, 0] rfl)
                      · refine lv_iconst (v := 0) hx hb dX1_compare_101 (by decide) ?_
                        refine lv_istore_n (lv' := [(3, .int 0), (0, .ref (ad 0)), (1, .int (nI k)), (2, .int x2), (4, .int (nI i))]) hx hb dX1_compare_102 rfl hl (by decide) rfl (fun ls hl => ?_)
                        refine lv_iinc (v := (nI (i + 1))) (lv' := [(4, .int (nI (i + 1))), (3, .int 0), (0, .ref (ad 0)), (1, .int (nI k)), (2, .int x2)]) hx hb dX1_compare_103 hl (k := 4) rfl (nI_1 i) (by decide) rfl (fun ls hl => ?_)
                        refine lv_goto (tgt := 28) hx hb dX1_compare_106 (by decide) ?_
                        exact ih28 (i + 1) x2 0 (by omega) (by omega) (by rw [e2, bI_iff]; exact ⟨fun h => lt_s h (fun q => q.2.1 c12), fun h o ho => h o (by omega)⟩) ((bI_f (fun h => h i (by omega) ⟨(fun q : kd i = 0 => c11 ((hc.1 i hlti).mpr q)), c13, c14⟩)).symm) H locs hP hD hS ls (lv_sub hl [2, 3, 4, 1, 0] rfl)
                  · refine lv_iload_n hx hb dX1_compare_55 rfl (lv_at hl 1 rfl) ?_
                    refine lv_iload hx hb dX1_compare_56 (lv_at hl 4 rfl) ?_
                    refine lv_iconst (v := (-1)) hx hb dX1_compare_58 (by decide) ?_
                    refine lv_ixor hx hb dX1_compare_59 ?_
                    refine lv_iand hx hb dX1_compare_60 ?_
                    refine lv_if_ne (tgt := 66) hx hb dX1_compare_61 (by decide) (fun c15 => ?_) (fun c15 => ?_)
                    · refine lv_aload_n hx hb dX1_compare_66 rfl (lv_at hl 0 rfl) ?_
                      refine gX1_rg hx hb hts hown hK hP dX1_compare_67 ?_
                      refine lv_iload hx hb dX1_compare_70 (lv_at hl 4 rfl) ?_
                      refine lX1_rg hx hb hK hP i rfl hlti dX1_compare_72 ?_
                      refine lv_aload_n hx hb dX1_compare_73 rfl (lv_at hl 0 rfl) ?_
                      refine gX1_rg hx hb hts hown hK hP dX1_compare_74 ?_
                      refine lv_iload_n hx hb dX1_compare_77 rfl (lv_at hl 1 rfl) ?_
                      refine lX1_rg hx hb hK hP k rfl hltk dX1_compare_78 ?_
                      refine lv_icmp_eq (tgt := 103) hx hb dX1_compare_79 (by decide) (fun c16 => ?_) (fun c16 => ?_)
                      · refine lv_iinc (v := (nI (i + 1))) (lv' := [(4, .int (nI (i + 1))), (0, .ref (ad 0)), (1, .int (nI k)), (2, .int x2), (3, .int x3)]) hx hb dX1_compare_103 hl (k := 4) rfl (nI_1 i) (by decide) rfl (fun ls hl => ?_)
                        refine lv_goto (tgt := 28) hx hb dX1_compare_106 (by decide) ?_
                        exact ih28 (i + 1) x2 x3 (by omega) (by omega) (by rw [e2, bI_iff]; exact ⟨fun h => lt_s h (fun q => c15 q.2.2), fun h o ho => h o (by omega)⟩) (by rw [e3, bI_iff]; exact ⟨fun h => lt_s h (fun q => q.2.1 c16), fun h o ho => h o (by omega)⟩) H locs hP hD hS ls (lv_sub hl [1, 2, 3, 4, 0] rfl)
                      · refine lv_aload_n hx hb dX1_compare_82 rfl (lv_at hl 0 rfl) ?_
                        refine gX1_rg hx hb hts hown hK hP dX1_compare_83 ?_
                        refine lv_iload_n hx hb dX1_compare_86 rfl (lv_at hl 1 rfl) ?_
                        refine lX1_rg hx hb hK hP k rfl hltk dX1_compare_87 ?_
                        refine lv_aload_n hx hb dX1_compare_88 rfl (lv_at hl 0 rfl) ?_
                        refine gX1_rg hx hb hts hown hK hP dX1_compare_89 ?_
                        refine lv_iload hx hb dX1_compare_92 (lv_at hl 4 rfl) ?_
                        refine lX1_rg hx hb hK hP i rfl hlti dX1_compare_94 ?_
                        refine lv_iconst (v := (-1)) hx hb dX1_compare_95 (by decide) ?_
                        refine lv_ixor hx hb dX1_compare_96 ?_
                        refine lv_iand hx hb dX1_compare_97 ?_
                        refine lv_if_ne (tgt := 103) hx hb dX1_compare_98 (by decide) (fun c17 => ?_) (fun c17 => ?_)
                        · refine lv_iinc (v := (nI (i + 1))) (lv' := [(4, .int (nI (i + 1))), (0, .ref (ad 0)), (1, .int (nI k)), (2, .int x2), (3, .int x3)]) hx hb dX1_compare_103 hl (k := 4) rfl (nI_1 i) (by decide) rfl (fun ls hl => ?_)
                          refine lv_goto (tgt := 28) hx hb dX1_compare_106 (by decide) ?_
                          exact ih28 (i + 1) x2 x3 (by omega) (by omega) (by rw [e2, bI_iff]; exact ⟨fun h => lt_s h (fun q => c15 q.2.2), fun h o ho => h o (by omega)⟩) (by rw [e3, bI_iff]; exact ⟨fun h => lt_s h (fun q => c17 q.2.2), fun h o ho => h o (by omega)⟩) H locs hP hD hS ls (lv_sub hl [1, 2, 3, 4, 0] rfl)
                        · refine lv_iconst (v := 0) hx hb dX1_compare_101 (by decide) ?_
                          refine lv_istore_n (lv' := [(3, .int 0), (0, .ref (ad 0)), (1, .int (nI k)), (2, .int x2), (4, .int (nI i))]) hx hb dX1_compare_102 rfl hl (by decide) rfl (fun ls hl => ?_)
                          refine lv_iinc (v := (nI (i + 1))) (lv' := [(4, .int (nI (i + 1))), (3, .int 0), (0, .ref (ad 0)), (1, .int (nI k)), (2, .int x2)]) hx hb dX1_compare_103 hl (k := 4) rfl (nI_1 i) (by decide) rfl (fun ls hl => ?_)
                          refine lv_goto (tgt := 28) hx hb dX1_compare_106 (by decide) ?_
                          exact ih28 (i + 1) x2 0 (by omega) (by omega) (by rw [e2, bI_iff]; exact ⟨fun h => lt_s h (fun q => c15 q.2.2), fun h o ho => h o (by omega)⟩) ((bI_f (fun h => h i (by omega) ⟨(fun q : kd i = 0 => c11 ((hc.1 i hlti).mpr q)), c16, c17⟩)).symm) H locs hP hD hS ls (lv_sub hl [2, 3, 4, 1, 0] rfl)
                    · refine lv_iconst (v := 0) hx hb dX1_compare_64 (by decide) ?_
                      refine lv_istore_n (lv' := [(2, .int 0), (0, .ref (ad 0)), (1, .int (nI k)), (3, .int x3), (4, .int (nI i))]) hx hb dX1_compare_65 rfl hl (by decide) rfl (fun ls hl => ?_)
                      refine lv_aload_n hx hb dX1_compare_66 rfl (lv_at hl 1 rfl) ?_
                      refine gX1_rg hx hb hts hown hK hP dX1_compare_67 ?_
                      refine lv_iload hx hb dX1_compare_70 (lv_at hl 4 rfl) ?_
                      refine lX1_rg hx hb hK hP i rfl hlti dX1_compare_72 ?_
                      refine lv_aload_n hx hb dX1_compare_73 rfl (lv_at hl 1 rfl) ?_
                      refine gX1_rg hx hb hts hown hK hP dX1_compare_74 ?_
                      refine lv_iload_n hx hb dX1_compare_77 rfl (lv_at hl 2 rfl) ?_
                      refine lX1_rg hx hb hK hP k rfl hltk dX1_compare_78 ?_
                      refine lv_icmp_eq (tgt := 103) hx hb dX1_compare_79 (by decide) (fun c18 => ?_) (fun c18 => ?_)
                      · refine lv_iinc (v := (nI (i + 1))) (lv' := [(4, .int (nI (i + 1))), (2, .int 0), (0, .ref (ad 0)), (1, .int (nI k)), (3, .int x3)]) hx hb dX1_compare_103 hl (k := 4) rfl (nI_1 i) (by decide) rfl (fun ls hl => ?_)
                        refine lv_goto (tgt := 28) hx hb dX1_compare_106 (by decide) ?_
                        exact ih28 (i + 1) 0 x3 (by omega) (by omega) ((bI_f (fun h => h i (by omega) ⟨(fun q : kd i = 0 => c11 ((hc.1 i hlti).mpr q)), c12, c15⟩)).symm) (by rw [e3, bI_iff]; exact ⟨fun h => lt_s h (fun q => q.2.1 c18), fun h o ho => h o (by omega)⟩) H locs hP hD hS ls (lv_sub hl [2, 3, 1, 4, 0] rfl)
                      · refine lv_aload_n hx hb dX1_compare_82 rfl (lv_at hl 1 rfl) ?_
                        refine gX1_rg hx hb hts hown hK hP dX1_compare_83 ?_
                        refine lv_iload_n hx hb dX1_compare_86 rfl (lv_at hl 2 rfl) ?_
                        refine lX1_rg hx hb hK hP k rfl hltk dX1_compare_87 ?_
                        refine lv_aload_n hx hb dX1_compare_88 rfl (lv_at hl 1 rfl) ?_
                        refine gX1_rg hx hb hts hown hK hP dX1_compare_89 ?_
                        refine lv_iload hx hb dX1_compare_92 (lv_at hl 4 rfl) ?_
                        refine lX1_rg hx hb hK hP i rfl hlti dX1_compare_94 ?_
                        refine lv_iconst (v := (-1)) hx hb dX1_compare_95 (by decide) ?_
                        refine lv_ixor hx hb dX1_compare_96 ?_
                        refine lv_iand hx hb dX1_compare_97 ?_
                        refine lv_if_ne (tgt := 103) hx hb dX1_compare_98 (by decide) (fun c19 => ?_) (fun c19 => ?_)
                        · refine lv_iinc (v := (nI (i + 1))) (lv' := [(4, .int (nI (i + 1))), (2, .int 0), (0, .ref (ad 0)), (1, .int (nI k)), (3, .int x3)]) hx hb dX1_compare_103 hl (k := 4) rfl (nI_1 i) (by decide) rfl (fun ls hl => ?_)
                          refine lv_goto (tgt := 28) hx hb dX1_compare_106 (by decide) ?_
                          exact ih28 (i + 1) 0 x3 (by omega) (by omega) ((bI_f (fun h => h i (by omega) ⟨(fun q : kd i = 0 => c11 ((hc.1 i hlti).mpr q)), c12, c15⟩)).symm) (by rw [e3, bI_iff]; exact ⟨fun h => lt_s h (fun q => c19 q.2.2), fun h o ho => h o (by omega)⟩) H locs hP hD hS ls (lv_sub hl [2, 3, 1, 4, 0] rfl)
                        · refine lv_iconst (v := 0) hx hb dX1_compare_101 (by decide) ?_
                          refine lv_istore_n (lv' := [(3, .int 0), (2, .int 0), (0, .ref (ad 0)), (1, .int (nI k)), (4, .int (nI i))]) hx hb dX1_compare_102 rfl hl (by decide) rfl (fun ls hl => ?_)
                          refine lv_iinc (v := (nI (i + 1))) (lv' := [(4, .int (nI (i + 1))), (3, .int 0), (2, .int 0), (0, .ref (ad 0)), (1, .int (nI k))]) hx hb dX1_compare_103 hl (k := 4) rfl (nI_1 i) (by decide) rfl (fun ls hl => ?_)
                          refine lv_goto (tgt := 28) hx hb dX1_compare_106 (by decide) ?_
                          exact ih28 (i + 1) 0 0 (by omega) (by omega) ((bI_f (fun h => h i (by omega) ⟨(fun q : kd i = 0 => c11 ((hc.1 i hlti).mpr q)), c12, c15⟩)).symm) ((bI_f (fun h => h i (by omega) ⟨(fun q : kd i = 0 => c11 ((hc.1 i hlti).mpr q)), c18, c19⟩)).symm) H locs hP hD hS ls (lv_sub hl [3, 4, 2, 1, 0] rfl)
                · refine lv_goto (tgt := 103) hx hb dX1_compare_46 (by decide) ?_
                  refine lv_iinc (v := (nI (i + 1))) (lv' := [(4, .int (nI (i + 1))), (0, .ref (ad 0)), (1, .int (nI k)), (2, .int x2), (3, .int x3)]) hx hb dX1_compare_103 hl (k := 4) rfl (nI_1 i) (by decide) rfl (fun ls hl => ?_)
                  refine lv_goto (tgt := 28) hx hb dX1_compare_106 (by decide) ?_
                  exact ih28 (i + 1) x2 x3 (by omega) (by omega) (by rw [e2, bI_iff]; exact ⟨fun h => lt_s h (fun q => (fun q : ¬ kd i = 0 => q ((hc.1 i hlti).mp c11)) q.1), fun h o ho => h o (by omega)⟩) (by rw [e3, bI_iff]; exact ⟨fun h => lt_s h (fun q => (fun q : ¬ kd i = 0 => q ((hc.1 i hlti).mp c11)) q.1), fun h o ho => h o (by omega)⟩) H locs hP hD hS ls (lv_sub hl [1, 2, 3, 4, 0] rfl)
          exact loop28 257 0 1 1 (by omega) (by omega) (bI_t lt_0).symm (bI_t lt_0).symm H locs hP hD hS ls (lv_sub hl [3, 4, 2, 1, 0] rfl)
        · refine lv_goto (tgt := 166) hx hb dX1_compare_18 (by decide) ?_
          refine lv_iinc (v := (nI (k + 1))) (lv' := [(1, .int (nI (k + 1))), (0, .ref (ad 0))]) hx hb dX1_compare_166 hl (k := 1) rfl (nI_1 k) (by decide) rfl (fun ls hl => ?_)
          refine lv_goto (tgt := 2) hx hb dX1_compare_169 (by decide) ?_
          exact ih2 (k + 1) kc (by omega) (by omega) (c_Is hc c2) H locs hP hD hS ls (lv_sub hl [1, 0] rfl)
  exact loop2 257 0 kd (by omega) (by omega) c_I0 s.heap [] hP hD hS ls (lv_sub hl [1, 0] rfl)
end
section
/-! Int32 by its bits (the first rows are the starting text BITS.to-paste) -/
def bt (x : Int32) (i : Nat) : Bool := x.toBitVec.getLsbD i
theorem b_ext {x y : Int32} (h : ∀ i, i < 32 → bt x i = bt y i) : x = y := Int32.toBitVec_inj.mp (BitVec.eq_of_getLsbD_eq (fun i hi => h i hi))
theorem b_or (x y : Int32) (i : Nat) : bt (x ||| y) i = (bt x i || bt y i) := by unfold bt; rw [Int32.toBitVec_or, BitVec.getLsbD_or]
theorem b_and (x y : Int32) (i : Nat) : bt (x &&& y) i = (bt x i && bt y i) := by unfold bt; rw [Int32.toBitVec_and, BitVec.getLsbD_and]
theorem b_xor (x y : Int32) (i : Nat) : bt (x ^^^ y) i = (bt x i ^^ bt y i) := by unfold bt; rw [Int32.toBitVec_xor, BitVec.getLsbD_xor]
theorem b_big {x : Int32} {i : Nat} (h : 32 ≤ i) : bt x i = false := BitVec.getLsbD_of_ge _ _ h
theorem b_m1 : ∀ i, i < 32 → bt (-1) i = true := by decide +kernel
theorem b_0 (i : Nat) : bt 0 i = false := BitVec.getLsbD_zero
theorem s_l : ∀ n, n < 32 → ((nI n &&& 31).toBitVec.smod 32).toNat = n := by decide +kernel
theorem b_shl (n : Nat) (hn : n < 32) (x : Int32) {i : Nat} (hi : i < 32) : bt (x <<< (nI n &&& 31)) i = (decide (n ≤ i) && bt x (i - n)) := by
  unfold bt
  rw [Int32.toBitVec_shiftLeft]
  show (x.toBitVec <<< ((nI n &&& 31).toBitVec.smod 32).toNat).getLsbD i = _
  rw [s_l n hn, BitVec.getLsbD_shiftLeft]
  rcases Nat.lt_or_ge i n with h | h
  · simp [h, Nat.not_le.mpr h]
  · simp [hi, h, Nat.not_lt.mpr h]
theorem b_sshr (n : Nat) (hn : n < 32) (x : Int32) {i : Nat} (hi : i < 32) : bt (x >>> (nI n &&& 31)) i = if n + i < 32 then bt x (n + i) else bt x 31 := by
  unfold bt
  rw [Int32.toBitVec_shiftRight]
  show (x.toBitVec.sshiftRight ((nI n &&& 31).toBitVec.smod 32).toNat).getLsbD i = _
  rw [s_l n hn, BitVec.getLsbD_sshiftRight, BitVec.msb_eq_getLsbD_last]
  simp [hi]
/-! ===== own rows ===== -/
theorem b_one : ∀ i, i < 32 → bt 1 i = decide (i = 0) := by decide +kernel
theorem b_lt {x : Int32} {i : Nat} (h : bt x i = true) : i < 32 := by
  rcases Nat.lt_or_ge i 32 with q | q
  · exact q
  · rw [b_big q] at h; cases h
theorem b_not {x : Int32} {i : Nat} (hi : i < 32) : bt (x ^^^ (-1)) i = !bt x i := by
  rw [b_xor, b_m1 i hi]; cases bt x i <;> rfl
theorem b_zero {x : Int32} : x = 0 ↔ ∀ i, i < 32 → bt x i = false := by
  constructor
  · intro h i _; rw [h, b_0]
  · intro h; exact b_ext (fun i hi => by rw [h i hi, b_0])
theorem b_nz {x : Int32} (h : ¬ x = 0) : ∃ i, i < 32 ∧ bt x i = true := by
  refine Classical.byContradiction fun q => h (b_zero.mpr fun i hi => ?_)
  cases e : bt x i with
  | false => rfl
  | true => exact absurd ⟨i, hi, e⟩ q
/-- meets -/
theorem b_meet {x y : Int32} : (x &&& y) = 0 ↔ ∀ i, bt x i = true → bt y i = true → False := by
  rw [b_zero]
  constructor
  · intro h i hx hy
    have q := h i (b_lt hx)
    rw [b_and, hx, hy] at q
    cases q
  · intro h i hi
    rw [b_and]
    cases ex : bt x i with
    | false => rfl
    | true =>
      cases ey : bt y i with
      | false => rfl
      | true => exact absurd trivial (fun _ => h i ex ey)
theorem b_nmeet {x y : Int32} (h : ¬ (x &&& y) = 0) : ∃ i, bt x i = true ∧ bt y i = true := by
  obtain ⟨i, hi, e⟩ := b_nz h
  rw [b_and, Bool.and_eq_true] at e
  exact ⟨i, e⟩
/-- lies in -/
theorem b_sub {x y : Int32} : (x &&& (y ^^^ (-1))) = 0 ↔ ∀ i, bt x i = true → bt y i = true := by
  rw [b_meet]
  constructor
  · intro h i hx
    cases e : bt y i with
    | true => rfl
    | false => exact absurd trivial (fun _ => h i hx (by rw [b_not (b_lt hx), e]; rfl))
  · intro h i hx hy
    rw [b_not (b_lt hx), h i hx] at hy
    cases hy
theorem b_nsub {x y : Int32} (h : ¬ (x &&& (y ^^^ (-1))) = 0) : ∃ i, bt x i = true ∧ bt y i = false := by
  obtain ⟨i, h1, h2⟩ := b_nmeet h
  refine ⟨i, h1, ?_⟩
  rw [b_not (b_lt h1)] at h2
  cases e : bt y i with
  | false => rfl
  | true => rw [e] at h2; cases h2
theorem b_andnot {x y : Int32} {i : Nat} : bt (x &&& (y ^^^ (-1))) i = (bt x i && !bt y i) := by
  rcases Nat.lt_or_ge i 32 with q | q
  · rw [b_and, b_not q]
  · rw [b_big q, b_big q]; rfl
theorem b_b1 {j i : Nat} (hj : j < 32) : bt (b1 (nI j)) i = decide (i = j) := by
  rcases Nat.lt_or_ge i 32 with hi | hi
  · unfold b1
    rw [b_shl j hj 1 hi]
    rcases Nat.lt_or_ge i j with q | q
    · rw [decide_eq_false (by omega), decide_eq_false (by omega)]; rfl
    · rw [decide_eq_true q, b_one (i - j) (by omega)]
      simp only [Bool.true_and]
      by_cases e : i = j
      · rw [decide_eq_true e, decide_eq_true (by omega)]
      · rw [decide_eq_false e, decide_eq_false (by omega)]
  · rw [b_big hi, decide_eq_false (by omega)]
theorem b_t1 {j : Nat} (hj : j < 32) : bt (b1 (nI j)) j = true := by rw [b_b1 hj]; exact decide_eq_true rfl
theorem b_orb1 {x : Int32} {j i : Nat} (hj : j < 32) : bt (x ||| b1 (nI j)) i = true ↔ bt x i = true ∨ i = j := by
  rw [b_or, b_b1 hj, Bool.or_eq_true, decide_eq_true_iff]
theorem b_meet1 {x : Int32} {j : Nat} (hj : j < 32) : (x &&& b1 (nI j)) = 0 ↔ bt x j = false := by
  rw [b_meet]
  constructor
  · intro h
    cases e : bt x j with
    | false => rfl
    | true => exact absurd trivial (fun _ => h j e (b_t1 hj))
  · intro h i hx hb
    rw [b_b1 hj, decide_eq_true_iff] at hb
    subst hb
    rw [h] at hx; cases hx
/-- one bit by a shift -/
theorem b_bit {x : Int32} {j : Nat} (hj : j < 32) : ((x >>> (nI j &&& 31)) &&& 1) = cond (bt x j) 1 0 := by
  refine b_ext fun i hi => ?_
  rw [b_and, b_one i hi]
  by_cases e : i = 0
  · subst e
    rw [b_sshr j hj x (by omega), if_pos (by omega)]
    cases bt x j
    · rw [Bool.false_and]; exact (b_0 0).symm
    · rw [Bool.true_and]; exact ((b_one 0 (by omega))).symm
  · rw [decide_eq_false e, Bool.and_false]
    cases bt x j
    · exact (b_0 i).symm
    · show false = bt 1 i
      rw [b_one i hi, decide_eq_false e]
theorem b_bit0 {x : Int32} {j : Nat} (hj : j < 32) : ((x >>> (nI j &&& 31)) &&& 1) = 0 ↔ bt x j = false := by
  rw [b_bit hj]
  cases bt x j
  · exact ⟨fun _ => rfl, fun _ => rfl⟩
  · exact ⟨fun h => absurd h (by decide), fun h => by cases h⟩
theorem b_bitn {x : Int32} {j : Nat} (hj : j < 32) : ¬ ((x >>> (nI j &&& 31)) &&& 1) = 0 ↔ bt x j = true := by
  rw [b_bit0 hj]; cases bt x j <;> simp
theorem b_in {x : Int32} {j : Nat} (hj : j < 32) : inP x (nI j) ↔ bt x j = true := by
  unfold inP
  rw [b_bit hj]
  cases bt x j
  · exact ⟨fun h => absurd h (by decide), fun h => by cases h⟩
  · exact ⟨fun _ => rfl, fun _ => rfl⟩
theorem b_nI (k i : Nat) : bt (nI k) i = (decide (i < 32) && k.testBit i) := by
  show (BitVec.ofNat 32 k).getLsbD i = _
  rw [BitVec.getLsbD_ofNat]
theorem b_nI8 {k i : Nat} (hk : k < 256) (h : bt (nI k) i = true) : i < 8 := by
  rw [b_nI, Bool.and_eq_true] at h
  rcases Nat.lt_or_ge i 8 with q | q
  · exact q
  · have := Nat.testBit_lt_two_pow (x := k) (i := i) (Nat.lt_of_lt_of_le hk (Nat.pow_le_pow_right (by omega) q : 2 ^ 8 ≤ 2 ^ i))
    rw [this] at h; exact absurd h.2 (by decide)
/-- every mask of eight bits is a small number -/
theorem b_num {x : Int32} (h : ∀ i, bt x i = true → i < 8) : ∃ q, q < 256 ∧ x = nI q := by
  refine ⟨x.toBitVec.toNat, ?_, ?_⟩
  · refine Nat.lt_of_not_le fun hq => ?_
    have : ∃ i, 8 ≤ i ∧ x.toBitVec.toNat.testBit i = true := Nat.exists_ge_and_testBit_of_ge_two_pow (n := 8) hq
    obtain ⟨i, hi, e⟩ := this
    exact absurd (h i (by unfold bt; rw [BitVec.getLsbD]; exact e)) (by omega)
  · refine Int32.toBitVec_inj.mp ?_
    show x.toBitVec = BitVec.ofNat 32 x.toBitVec.toNat
    exact (BitVec.ofNat_toNat ..).symm ▸ (by simp)
/-- the mask of all arguments -/
def allN (ν : Nat) : Nat := 2 ^ ν - 1
theorem b_all : ∀ ν, ν ≤ 8 → ∀ i, i < 32 → bt (nI (allN ν)) i = decide (i < ν) := by decide +kernel
theorem b_all' {ν i : Nat} (h : ν ≤ 8) : bt (nI (allN ν)) i = true ↔ i < ν := by
  rcases Nat.lt_or_ge i 32 with q | q
  · rw [b_all ν h i q, decide_eq_true_iff]
  · rw [b_big q]; exact ⟨fun h => (by cases h), fun h => (by omega)⟩
theorem allN_lt : ∀ ν, ν ≤ 8 → allN ν < 256 := by decide +kernel
/-- within the first ν arguments -/
def Mk (ν : Nat) (x : Int32) : Prop := ∀ i, bt x i = true → i < ν
theorem Mk_num {ν : Nat} {x : Int32} (hv : ν ≤ 8) (h : Mk ν x) : ∃ q, q < 256 ∧ x = nI q := b_num (fun i hi => Nat.lt_of_lt_of_le (h i hi) hv)
theorem Mk_or {ν : Nat} {x y : Int32} (hx : Mk ν x) (hy : Mk ν y) : Mk ν (x ||| y) := fun i h => by
  rw [b_or, Bool.or_eq_true] at h
  exact h.elim (hx i) (hy i)
theorem Mk_0 {ν : Nat} : Mk ν 0 := fun i h => by rw [b_0] at h; cases h
theorem Mk_b1 {ν j : Nat} {x : Int32} (hj : j < 32) (hx : Mk ν x) (h : j < ν) : Mk ν (x ||| b1 (nI j)) := fun i q => (b_orb1 hj).mp q |>.elim (hx i) (fun e => e ▸ h)
theorem Mk_le {ν j : Nat} (hv : ν ≤ 8) (hj : j < 256) : Mk ν (nI j) ↔ j < allN ν + 1 := by
  have hp : 0 < 2 ^ ν := Nat.two_pow_pos ν
  have e : allN ν + 1 = 2 ^ ν := by unfold allN; omega
  rw [e]
  constructor
  · intro h
    refine Nat.lt_of_not_le fun hq => ?_
    obtain ⟨i, hi, t⟩ := Nat.exists_ge_and_testBit_of_ge_two_pow (n := ν) hq
    have : i < 8 := by
      rcases Nat.lt_or_ge i 8 with q | q
      · exact q
      · rw [Nat.testBit_lt_two_pow (Nat.lt_of_lt_of_le hj (Nat.pow_le_pow_right (by omega) q : 2 ^ 8 ≤ 2 ^ i))] at t; cases t
    exact absurd (h i (by rw [b_nI, t, decide_eq_true (by omega)]; rfl)) (by omega)
  · intro h i hi
    rw [b_nI, Bool.and_eq_true] at hi
    refine Nat.lt_of_not_le fun hq => ?_
    rw [Nat.testBit_lt_two_pow (Nat.lt_of_lt_of_le h (Nat.pow_le_pow_right (by omega) hq))] at hi
    exact absurd hi.2 (by decide)
/-- how many of the eight are in -/
def cn8 (x : Int32) : Nat := (bt x 0).toNat + (bt x 1).toNat + (bt x 2).toNat + (bt x 3).toNat + (bt x 4).toNat + (bt x 5).toNat + (bt x 6).toNat + (bt x 7).toNat
theorem bl {a b : Bool} (h : a = true → b = true) : a.toNat ≤ b.toNat := by
  cases a
  · exact Nat.zero_le _
  · rw [h rfl]; exact Nat.le_refl _
theorem cn8_mono {x y : Int32} (h : ∀ i, bt x i = true → bt y i = true) : cn8 x ≤ cn8 y := by
  have h0 := bl (h 0); have h1 := bl (h 1); have h2 := bl (h 2); have h3 := bl (h 3); have h4 := bl (h 4); have h5 := bl (h 5); have h6 := bl (h 6); have h7 := bl (h 7)
  unfold cn8; omega
theorem cn8_strict {x y : Int32} (h : ∀ i, bt x i = true → bt y i = true) {j : Nat} (hj : j < 8) (hx : bt x j = false) (hy : bt y j = true) : cn8 x + 1 ≤ cn8 y := by
  have h0 := bl (h 0); have h1 := bl (h 1); have h2 := bl (h 2); have h3 := bl (h 3); have h4 := bl (h 4); have h5 := bl (h 5); have h6 := bl (h 6); have h7 := bl (h 7)
  have hn : (bt x j).toNat = 0 := by rw [hx]; rfl
  have hm : (bt y j).toNat = 1 := by rw [hy]; rfl
  rcases (show j = 0 ∨ j = 1 ∨ j = 2 ∨ j = 3 ∨ j = 4 ∨ j = 5 ∨ j = 6 ∨ j = 7 by omega) with rfl | rfl | rfl | rfl | rfl | rfl | rfl | rfl <;> (unfold cn8; omega)
theorem cn8_le (x : Int32) : cn8 x ≤ 8 := by
  have q : ∀ b : Bool, b.toNat ≤ 1 := fun b => by cases b <;> decide
  have h0 := q (bt x 0); have h1 := q (bt x 1); have h2 := q (bt x 2); have h3 := q (bt x 3); have h4 := q (bt x 4); have h5 := q (bt x 5); have h6 := q (bt x 6); have h7 := q (bt x 7)
  unfold cn8; omega
theorem cn8_lt {x : Int32} {j : Nat} (hj : j < 8) (hx : bt x j = false) : cn8 x ≤ 7 := by
  have q : ∀ b : Bool, b.toNat ≤ 1 := fun b => by cases b <;> decide
  have h0 := q (bt x 0); have h1 := q (bt x 1); have h2 := q (bt x 2); have h3 := q (bt x 3); have h4 := q (bt x 4); have h5 := q (bt x 5); have h6 := q (bt x 6); have h7 := q (bt x 7)
  have hn : (bt x j).toNat = 0 := by rw [hx]; rfl
  rcases (show j = 0 ∨ j = 1 ∨ j = 2 ∨ j = 3 ∨ j = 4 ∨ j = 5 ∨ j = 6 ∨ j = 7 by omega) with rfl | rfl | rfl | rfl | rfl | rfl | rfl | rfl <;> (unfold cn8; omega)
/-- within ν: no more than ν -/
theorem cn8_Mk {ν : Nat} {x : Int32} (hv : ν ≤ 8) (h : Mk ν x) : cn8 x ≤ ν := by
  have q : ∀ i, (bt x i).toNat ≤ 1 ∧ (ν ≤ i → (bt x i).toNat = 0) := fun i => by
    cases e : bt x i
    · exact ⟨Nat.zero_le _, fun _ => rfl⟩
    · exact ⟨Nat.le_refl 1, fun hi => absurd (h i e) (by omega)⟩
  have h0 := q 0; have h1 := q 1; have h2 := q 2; have h3 := q 3; have h4 := q 4; have h5 := q 5; have h6 := q 6; have h7 := q 7
  unfold cn8
  omega
end
section
/-! argument frameworks over masks: R a b: a attacks b; ν arguments -/
def att (R : Nat → Nat → Prop) (E : Int32) (b : Nat) : Prop := ∃ a, bt E a = true ∧ R a b
def dfd (ν : Nat) (R : Nat → Nat → Prop) (E : Int32) (b : Nat) : Prop := b < ν ∧ ∀ a, R a b → att R E a
def cfr (R : Nat → Nat → Prop) (E : Int32) : Prop := ∀ b, bt E b = true → ¬ att R E b
def adm (ν : Nat) (R : Nat → Nat → Prop) (E : Int32) : Prop := cfr R E ∧ ∀ b, bt E b = true → dfd ν R E b
def com (ν : Nat) (R : Nat → Nat → Prop) (E : Int32) : Prop := adm ν R E ∧ ∀ b, dfd ν R E b → bt E b = true
def rgP (R : Nat → Nat → Prop) (E : Int32) (i : Nat) : Prop := bt E i = true ∨ att R E i
def wider (R : Nat → Nat → Prop) (E F : Int32) : Prop := (∀ i, rgP R E i → rgP R F i) ∧ ∃ i, rgP R F i ∧ ¬ rgP R E i
def sub (E F : Int32) : Prop := ∀ i, bt E i = true → bt F i = true
section DU
variable {ν : Nat} {R : Nat → Nat → Prop} {E F : Int32}
theorem adm_Mk (h : adm ν R E) : Mk ν E := fun i hi => (h.2 i hi).1
theorem com_Mk (h : com ν R E) : Mk ν E := adm_Mk h.1
theorem att_mono (h : sub E F) {b : Nat} (q : att R E b) : att R F b := by
  obtain ⟨a, h1, h2⟩ := q
  exact ⟨a, h a h1, h2⟩
theorem sub_anti (h1 : sub E F) (h2 : sub F E) : E = F := b_ext fun i _ => by
  cases e : bt E i with
  | true => exact (h1 i e).symm
  | false =>
    cases f : bt F i with
    | false => rfl
    | true => rw [h2 i f] at e; cases e
theorem adm_add (hv : ν ≤ 8) (h : adm ν R E) {b : Nat} (d : dfd ν R E b) : adm ν R (E ||| b1 (nI b)) := by
  have hb : b < 32 := by have := d.1; omega
  have hs : sub E (E ||| b1 (nI b)) := fun i hi => (b_orb1 hb).mpr (Or.inl hi)
  have nb : ¬ att R E b := fun q => by
    obtain ⟨c, c1, c2⟩ := q
    exact h.1 c c1 (d.2 c c2)
  refine ⟨fun x hx q => ?_, fun x hx => ?_⟩
  · obtain ⟨a, ha, hr⟩ := q
    rcases (b_orb1 hb).mp ha with ha1 | ea
    · rcases (b_orb1 hb).mp hx with hx1 | ex
      · exact h.1 x hx1 ⟨a, ha1, hr⟩
      · rw [ex] at hr; exact nb ⟨a, ha1, hr⟩
    · rw [ea] at hr
      rcases (b_orb1 hb).mp hx with hx1 | ex
      · exact nb ((h.2 x hx1).2 b hr)
      · rw [ex] at hr; exact nb (d.2 b hr)
  · rcases (b_orb1 hb).mp hx with hx1 | ex
    · exact ⟨(h.2 x hx1).1, fun a hr => att_mono hs ((h.2 x hx1).2 a hr)⟩
    · rw [ex]; exact ⟨d.1, fun a hr => att_mono hs (d.2 a hr)⟩
theorem not_com (h : adm ν R E) (hc : ¬ com ν R E) : ∃ b, dfd ν R E b ∧ bt E b = false := by
  refine Classical.byContradiction fun q => hc ⟨h, fun b d => ?_⟩
  cases e : bt E b with
  | true => rfl
  | false => exact absurd ⟨b, d, e⟩ q
theorem adm_com (hv : ν ≤ 8) : ∀ (k : Nat) (E : Int32), 8 < cn8 E + k → adm ν R E → ∃ F, com ν R F ∧ sub E F := by
  intro k
  induction k with
  | zero =>
    intro E hk _
    exact absurd (cn8_le E) (by omega)
  | succ k ih =>
    intro E hk h
    by_cases hc : com ν R E
    · exact ⟨E, hc, fun _ q => q⟩
    · obtain ⟨b, d, e⟩ := not_com h hc
      have hb : b < 32 := by have := d.1; omega
      have hs : sub E (E ||| b1 (nI b)) := fun i hi => (b_orb1 hb).mpr (Or.inl hi)
      have h8 : b < 8 := by have := d.1; omega
      have := cn8_strict hs h8 e ((b_orb1 hb).mpr (Or.inr rfl))
      obtain ⟨F, hF, hsF⟩ := ih (E ||| b1 (nI b)) (by omega) (adm_add hv h d)
      exact ⟨F, hF, fun i hi => hsF i (hs i hi)⟩
theorem adm_ext (hv : ν ≤ 8) (h : adm ν R E) : ∃ F, com ν R F ∧ sub E F := adm_com hv 9 E (by omega) h
theorem rg_mono (h : sub E F) (i : Nat) (q : rgP R E i) : rgP R F i := q.elim (fun a => Or.inl (h i a)) (fun a => Or.inr (att_mono h a))
/-- preferred: maximal among the complete = maximal among the admissible -/
theorem pref_iff (hv : ν ≤ 8) : (com ν R E ∧ ∀ F, com ν R F → ¬ (¬ F = E ∧ sub E F)) ↔ (adm ν R E ∧ ∀ F, Mk ν F → ¬ (¬ F = E ∧ sub E F ∧ adm ν R F)) := by
  constructor
  · intro h
    refine ⟨h.1.1, fun F _ q => ?_⟩
    obtain ⟨G, hG, hs⟩ := adm_ext hv q.2.2
    refine h.2 G hG ⟨fun e => q.1 ?_, fun i hi => hs i (q.2.1 i hi)⟩
    subst e
    exact sub_anti hs q.2.1
  · intro h
    have hc : com ν R E := by
      refine Classical.byContradiction fun hc => ?_
      obtain ⟨b, d, e⟩ := not_com h.1 hc
      have hb : b < 32 := by have := d.1; omega
      have ha := adm_add hv h.1 d
      refine h.2 _ (adm_Mk ha) ⟨fun q => ?_, fun i hi => (b_orb1 hb).mpr (Or.inl hi), ha⟩
      have : bt (E ||| b1 (nI b)) b = true := (b_orb1 hb).mpr (Or.inr rfl)
      rw [q, e] at this
      cases this
    exact ⟨hc, fun F hF q => h.2 F (com_Mk hF) ⟨q.1, q.2, hF.1⟩⟩
/-- semistable -/
theorem semi_iff (hv : ν ≤ 8) : (com ν R E ∧ ∀ F, com ν R F → ¬ wider R E F) ↔ (adm ν R E ∧ ∀ F, Mk ν F → ¬ (wider R E F ∧ adm ν R F)) := by
  constructor
  · intro h
    refine ⟨h.1.1, fun F _ q => ?_⟩
    obtain ⟨G, hG, hs⟩ := adm_ext hv q.2
    obtain ⟨⟨q1, i, q2, q3⟩, -⟩ := q
    exact h.2 G hG ⟨fun i hi => rg_mono hs i (q1 i hi), i, rg_mono hs i q2, q3⟩
  · intro h
    have hc : com ν R E := by
      refine Classical.byContradiction fun hc => ?_
      obtain ⟨b, d, e⟩ := not_com h.1 hc
      have hb : b < 32 := by have := d.1; omega
      have ha := adm_add hv h.1 d
      have hs : sub E (E ||| b1 (nI b)) := fun i hi => (b_orb1 hb).mpr (Or.inl hi)
      refine h.2 _ (adm_Mk ha) ⟨⟨rg_mono hs, b, Or.inl ((b_orb1 hb).mpr (Or.inr rfl)), fun q => ?_⟩, ha⟩
      rcases q with q | ⟨c, c1, c2⟩
      · rw [e] at q; cases q
      · exact h.1.1 c c1 (d.2 c c2)
    exact ⟨hc, fun F hF q => h.2 F (com_Mk hF) ⟨q, hF.1⟩⟩
/-- stable sets are complete -/
theorem stab_iff (hR : ∀ a b, R a b → a < ν ∧ b < ν) : (com ν R E ∧ ∀ i, rgP R E i ↔ i < ν) ↔ (cfr R E ∧ ∀ i, rgP R E i ↔ i < ν) := by
  constructor
  · intro h
    exact ⟨h.1.1.1, h.2⟩
  · intro h
    refine ⟨⟨⟨h.1, fun b hb => ⟨(h.2 b).mp (Or.inl hb), fun a hr => ?_⟩⟩, fun b d => ?_⟩, h.2⟩
    · rcases (h.2 a).mpr (hR a b hr).1 with q | q
      · exact absurd ⟨a, q, hr⟩ (h.1 b hb)
      · exact q
    · rcases (h.2 b).mpr d.1 with q | ⟨c, c1, c2⟩
      · exact q
      · exact absurd (d.2 c c2) (h.1 c c1)
end DU
/-- the kinds of extension -/
def Sem (ν : Nat) (R : Nat → Nat → Prop) (κ : Nat) (E : Int32) : Prop :=
  if κ = 2 then cfr R E ∧ ∀ i, rgP R E i ↔ i < ν
  else adm ν R E ∧ (if κ = 0 then ∀ b, dfd ν R E b → bt E b = true else if κ = 1 then ∀ F, Mk ν F → ¬ (¬ F = E ∧ sub E F ∧ adm ν R F) else ∀ F, Mk ν F → ¬ (wider R E F ∧ adm ν R F))
/-! ===== the model's functions answer these words ===== -/
theorem sh3 {k : Nat} (hk : k < 64) : nI k >>> ((3 : Int32) &&& 31) = nI (k / 8) := pk_shrN (by omega) _ 3 (by decide +kernel)
theorem an7 {k : Nat} (hk : k < 64) : nI k &&& 7 = nI (k % 8) := pk_andN (by omega) 3 (by decide +kernel)
theorem m_att_bit (th : Nat → Int32) (st : Int32) : ∀ k, k ≤ 64 → ∀ i, bt (m_att th st k) i = true ↔ ∃ j, j < k ∧ ¬ th j = 0 ∧ bt st (j / 8) = true ∧ i = j % 8 := by
  intro k
  induction k with
  | zero =>
    intro _ i
    rw [m_att, b_0]
    exact ⟨fun h => (by cases h), fun h => by obtain ⟨j, h, -⟩ := h; omega⟩
  | succ k ih =>
    intro hk i
    rw [m_att]
    have ih := ih (by omega) i
    have hin : inP st (nI k >>> ((3 : Int32) &&& 31)) ↔ bt st (k / 8) = true := by rw [sh3 (by omega)]; exact b_in (by omega)
    by_cases hc : ¬ th k = 0 ∧ inP st (nI k >>> ((3 : Int32) &&& 31))
    · rw [cIf_t hc, an7 (by omega)]
      show bt (m_att th st k ||| b1 (nI (k % 8))) i = true ↔ _
      rw [b_orb1 (by omega), ih]
      constructor
      · rintro (⟨j, h1, h2⟩ | rfl)
        · exact ⟨j, by omega, h2⟩
        · exact ⟨k, by omega, hc.1, hin.mp hc.2, rfl⟩
      · rintro ⟨j, h1, h2, h3, h4⟩
        by_cases e : j = k
        · subst e; exact Or.inr h4
        · exact Or.inl ⟨j, by omega, h2, h3, h4⟩
    · rw [cIf_f hc, ih]
      constructor
      · rintro ⟨j, h1, h2⟩
        exact ⟨j, by omega, h2⟩
      · rintro ⟨j, h1, h2, h3, h4⟩
        by_cases e : j = k
        · subst e; exact absurd ⟨h2, hin.mpr h3⟩ hc
        · exact ⟨j, by omega, h2, h3, h4⟩
theorem m_dfk_bit (th : Nat → Int32) (al hit : Int32) : ∀ k, k ≤ 64 → ∀ i, bt (m_dfk th al hit k) i = true ↔ bt al i = true ∧ ¬ ∃ j, j < k ∧ ¬ th j = 0 ∧ ¬ bt hit (j / 8) = true ∧ i = j % 8 := by
  intro k
  induction k with
  | zero =>
    intro _ i
    rw [m_dfk]
    exact ⟨fun h => ⟨h, fun q => by obtain ⟨j, h, -⟩ := q; omega⟩, fun h => h.1⟩
  | succ k ih =>
    intro hk i
    rw [m_dfk]
    have ih := ih (by omega) i
    have hin : inP hit (nI k >>> ((3 : Int32) &&& 31)) ↔ bt hit (k / 8) = true := by rw [sh3 (by omega)]; exact b_in (by omega)
    by_cases hc : ¬ th k = 0 ∧ ¬ inP hit (nI k >>> ((3 : Int32) &&& 31))
    · rw [cIf_t hc, an7 (by omega)]
      show bt (m_dfk th al hit k &&& (b1 (nI (k % 8)) ^^^ (-1))) i = true ↔ _
      rw [b_andnot, Bool.and_eq_true, ih, b_b1 (by omega)]
      constructor
      · rintro ⟨⟨h1, h2⟩, h3⟩
        refine ⟨h1, ?_⟩
        rintro ⟨j, q1, q2, q3, q4⟩
        by_cases e : j = k
        · subst e; rw [decide_eq_true q4] at h3; cases h3
        · exact h2 ⟨j, by omega, q2, q3, q4⟩
      · rintro ⟨h1, h2⟩
        refine ⟨⟨h1, ?_⟩, ?_⟩
        · rintro ⟨j, q1, q2⟩
          exact h2 ⟨j, by omega, q2⟩
        · rw [decide_eq_false (fun e => h2 ⟨k, by omega, hc.1, fun q => hc.2 (hin.mpr q), e⟩)]; rfl
    · rw [cIf_f hc, ih]
      constructor
      · rintro ⟨h1, h2⟩
        refine ⟨h1, ?_⟩
        rintro ⟨j, q1, q2, q3, q4⟩
        by_cases e : j = k
        · subst e; exact hc ⟨q2, fun q => q3 (hin.mp q)⟩
        · exact h2 ⟨j, by omega, q2, q3, q4⟩
      · rintro ⟨h1, h2⟩
        refine ⟨h1, ?_⟩
        rintro ⟨j, q1, q2⟩
        exact h2 ⟨j, by omega, q2⟩
/-- the model's array holds the attacks -/
def TH (R : Nat → Nat → Prop) (th : Nat → Int32) : Prop := ∀ a b, a < 8 → b < 8 → (¬ th (8 * a + b) = 0 ↔ R a b)
section MO
variable {ν : Nat} {R : Nat → Nat → Prop} {th : Nat → Int32} {E : Int32}
theorem m_at_bit (hv : ν ≤ 8) (hR : ∀ a b, R a b → a < ν ∧ b < ν) (hT : TH R th) (i : Nat) : bt (m_at th E) i = true ↔ att R E i := by
  unfold m_at
  rw [m_att_bit th E 64 (by omega) i]
  constructor
  · rintro ⟨j, h1, h2, h3, h4⟩
    refine ⟨j / 8, h3, ?_⟩
    rw [h4]
    refine (hT (j / 8) (j % 8) (by omega) (by omega)).mp ?_
    rw [show 8 * (j / 8) + j % 8 = j by omega]
    exact h2
  · rintro ⟨a, h1, h2⟩
    have := hR a i h2
    refine ⟨8 * a + i, by omega, (hT a i (by omega) (by omega)).mpr h2, ?_, by omega⟩
    rw [show (8 * a + i) / 8 = a by omega]
    exact h1
theorem m_df_bit (hv : ν ≤ 8) (hR : ∀ a b, R a b → a < ν ∧ b < ν) (hT : TH R th) (i : Nat) : bt (m_df th (nI (allN ν)) E) i = true ↔ dfd ν R E i := by
  unfold m_df
  rw [m_dfk_bit th _ _ 64 (by omega) i, b_all' hv]
  constructor
  · rintro ⟨h1, h2⟩
    refine ⟨h1, fun a hr => ?_⟩
    have := hR a i hr
    refine Classical.byContradiction fun q => h2 ⟨8 * a + i, by omega, (hT a i (by omega) (by omega)).mpr hr, fun z => q ?_, by omega⟩
    rw [show (8 * a + i) / 8 = a by omega] at z
    exact (m_at_bit hv hR hT a).mp z
  · rintro ⟨h1, h2⟩
    refine ⟨h1, ?_⟩
    rintro ⟨j, q1, q2, q3, q4⟩
    refine q3 ((m_at_bit hv hR hT _).mpr (h2 (j / 8) ?_))
    rw [q4]
    refine (hT (j / 8) (j % 8) (by omega) (by omega)).mp ?_
    rw [show 8 * (j / 8) + j % 8 = j by omega]
    exact q2
theorem m_cf_iff (hv : ν ≤ 8) (hR : ∀ a b, R a b → a < ν ∧ b < ν) (hT : TH R th) : m_cf th E ↔ cfr R E := by
  unfold m_cf
  rw [b_meet]
  exact ⟨fun h b hb q => h b ((m_at_bit hv hR hT b).mpr q) hb, fun h i h1 h2 => h i h2 ((m_at_bit hv hR hT i).mp h1)⟩
theorem m_ad_iff (hv : ν ≤ 8) (hR : ∀ a b, R a b → a < ν ∧ b < ν) (hT : TH R th) : m_ad th (nI (allN ν)) E ↔ adm ν R E := by
  unfold m_ad adm
  rw [m_cf_iff hv hR hT, b_sub]
  exact ⟨fun h => ⟨h.1, fun b hb => (m_df_bit hv hR hT b).mp (h.2 b hb)⟩, fun h => ⟨h.1, fun b hb => (m_df_bit hv hR hT b).mpr (h.2 b hb)⟩⟩
theorem m_rg_bit (hv : ν ≤ 8) (hR : ∀ a b, R a b → a < ν ∧ b < ν) (hT : TH R th) (i : Nat) : bt (m_rg th E) i = true ↔ rgP R E i := by
  unfold m_rg rgP
  rw [b_or, Bool.or_eq_true, m_at_bit hv hR hT]
/-- two ranges as masks: wider, in the machine's words -/
theorem wider_iff {x y : Int32} {E F : Int32} (hx : ∀ i, bt x i = true ↔ rgP R E i) (hy : ∀ i, bt y i = true ↔ rgP R F i) : (¬ y = x ∧ (x &&& (y ^^^ (-1))) = 0) ↔ wider R E F := by
  rw [b_sub]
  constructor
  · rintro ⟨h1, h2⟩
    refine ⟨fun i q => (hy i).mp (h2 i ((hx i).mpr q)), Classical.byContradiction fun q => h1 (sub_anti (fun i hi => ?_) h2)⟩
    exact (hx i).mpr (Classical.byContradiction fun z => q ⟨i, (hy i).mp hi, z⟩)
  · rintro ⟨h1, i, h2, h3⟩
    refine ⟨fun e => h3 ?_, fun i hi => (hy i).mpr (h1 i ((hx i).mp hi))⟩
    subst e
    exact (hx i).mp ((hy i).mpr h2)
theorem m_mx_iff (hv : ν ≤ 8) (hR : ∀ a b, R a b → a < ν ∧ b < ν) (hT : TH R th) : m_mx th (nI (allN ν)) E (allN ν) ↔ ∀ F, Mk ν F → ¬ (¬ F = E ∧ sub E F ∧ adm ν R F) := by
  constructor
  · intro h F hF q
    obtain ⟨j, hj, rfl⟩ := Mk_num hv hF
    exact h j ((Mk_le hv hj).mp hF) ⟨q.1, b_sub.mpr q.2.1, (m_ad_iff hv hR hT).mpr q.2.2⟩
  · intro h j hj q
    have hj2 : j < 256 := by have := allN_lt ν hv; omega
    exact h (nI j) ((Mk_le hv hj2).mpr hj) ⟨q.1, b_sub.mp q.2.1, (m_ad_iff hv hR hT).mp q.2.2⟩
theorem m_wd_iff (hv : ν ≤ 8) (hR : ∀ a b, R a b → a < ν ∧ b < ν) (hT : TH R th) : m_wd th (nI (allN ν)) E (allN ν) ↔ ∀ F, Mk ν F → ¬ (wider R E F ∧ adm ν R F) := by
  constructor
  · intro h F hF q
    obtain ⟨j, hj, rfl⟩ := Mk_num hv hF
    have w := (wider_iff (m_rg_bit hv hR hT) (m_rg_bit hv hR hT)).mpr q.1
    exact h j ((Mk_le hv hj).mp hF) ⟨w.1, w.2, (m_ad_iff hv hR hT).mpr q.2⟩
  · intro h j hj q
    have hj2 : j < 256 := by have := allN_lt ν hv; omega
    exact h (nI j) ((Mk_le hv hj2).mpr hj) ⟨(wider_iff (m_rg_bit hv hR hT) (m_rg_bit hv hR hT)).mp ⟨q.1, q.2.1⟩, (m_ad_iff hv hR hT).mp q.2.2⟩
theorem nI_lit {κ : Nat} (h : κ < 4) : (nI κ = 2 ↔ κ = 2) ∧ (nI κ = 0 ↔ κ = 0) ∧ (nI κ = 1 ↔ κ = 1) := by
  rcases (show κ = 0 ∨ κ = 1 ∨ κ = 2 ∨ κ = 3 by omega) with rfl | rfl | rfl | rfl <;> decide +kernel
theorem m_is_iff (hv : ν ≤ 8) (hR : ∀ a b, R a b → a < ν ∧ b < ν) (hT : TH R th) {κ : Nat} (hκ : κ < 4) : m_is th (allN ν) (nI κ) E ↔ Sem ν R κ E := by
  obtain ⟨k2, k0, k1⟩ := nI_lit hκ
  unfold m_is Sem
  by_cases e2 : κ = 2
  · rw [if_pos (k2.mpr e2), if_pos e2, m_cf_iff hv hR hT]
    refine and_congr_right fun _ => ?_
    constructor
    · intro h i
      rw [← m_rg_bit hv hR hT i, h, b_all' hv]
    · intro h
      refine sub_anti (fun i hi => ?_) (fun i hi => ?_)
      · exact (b_all' hv).mpr ((h i).mp ((m_rg_bit hv hR hT i).mp hi))
      · exact (m_rg_bit hv hR hT i).mpr ((h i).mpr ((b_all' hv).mp hi))
  · rw [if_neg (fun q => e2 (k2.mp q)), if_neg e2, m_ad_iff hv hR hT]
    refine and_congr_right fun ha => ?_
    by_cases e0 : κ = 0
    · rw [if_pos (k0.mpr e0), if_pos e0]
      constructor
      · intro h b d
        rw [← m_df_bit hv hR hT, h] at d
        exact d
      · intro h
        refine sub_anti (fun i hi => h i ((m_df_bit hv hR hT i).mp hi)) (fun i hi => (m_df_bit hv hR hT i).mpr (ha.2 i hi))
    · rw [if_neg (fun q => e0 (k0.mp q)), if_neg e0]
      by_cases e1 : κ = 1
      · rw [if_pos (k1.mpr e1), if_pos e1]
        exact m_mx_iff hv hR hT
      · rw [if_neg (fun q => e1 (k1.mp q)), if_neg e1]
        exact m_wd_iff hv hR hT
/-- the grounded set, in the model's words -/
theorem m_pre_iff (hv : ν ≤ 8) (hR : ∀ a b, R a b → a < ν ∧ b < ν) (hT : TH R th) : m_pre th (nI (allN ν)) E ↔ ∀ b, dfd ν R E b → bt E b = true := by
  unfold m_pre
  rw [b_sub]
  exact ⟨fun h b d => h b ((m_df_bit hv hR hT b).mpr d), fun h i hi => h i ((m_df_bit hv hR hT i).mp hi)⟩
theorem m_grd_eq (hv : ν ≤ 8) (hR : ∀ a b, R a b → a < ν ∧ b < ν) (hT : TH R th) {G r : Int32} (hG : Mk ν G) (hp : ∀ b, dfd ν R G b → bt G b = true) (hl : ∀ F, Mk ν F → (∀ b, dfd ν R F b → bt F b = true) → sub G F) (h : m_grd th (allN ν) r) : r = G := by
  have hN := allN_lt ν hv
  obtain ⟨g, hg, eg⟩ := Mk_num hv hG
  have hgN : g < allN ν + 1 := (Mk_le hv hg).mp (eg ▸ hG)
  have hlst : m_lst th (allN ν) (nI g) := by
    refine ⟨(m_pre_iff hv hR hT).mpr (eg ▸ hp), fun j hj q => b_sub.mpr ?_⟩
    have := hl (nI j) ((Mk_le hv (by omega)).mpr hj) ((m_pre_iff hv hR hT).mp q)
    rw [eg] at this
    exact this
  rcases h with ⟨j, hj, h1, h2⟩ | ⟨-, h⟩
  · rw [h2]
    refine sub_anti ?_ ?_
    · rw [eg]; exact b_sub.mp (h1.2 g hgN hlst.1)
    · exact hl (nI j) ((Mk_le hv (by omega)).mpr hj) ((m_pre_iff hv hR hT).mp h1.1)
  · exact absurd hlst (h g hgN)
end MO
end
section
/-! labellings: what the labeller's steps keep -/
theorem bf {b : Bool} (h : ¬ b = true) : b = false := by cases b; rfl; exact absurd rfl h
def fit (R : Nat → Nat → Prop) (E ac re un : Int32) : Prop := (∀ i, bt ac i = true → bt E i = true) ∧ (∀ i, bt re i = true → att R E i) ∧ (∀ i, bt un i = true → ¬ bt E i = true ∧ ¬ att R E i)
def lab (ac re un : Int32) : Int32 := (ac ||| re) ||| un
def Mk3 (ν : Nat) (ac re un : Int32) : Prop := Mk ν ac ∧ Mk ν re ∧ Mk ν un
theorem lab_bit {ac re un : Int32} {i : Nat} : bt (lab ac re un) i = true ↔ bt ac i = true ∨ bt re i = true ∨ bt un i = true := by
  unfold lab
  rw [b_or, b_or, Bool.or_eq_true, Bool.or_eq_true, or_assoc]
theorem lab_no {ac re un : Int32} {i : Nat} (h : bt (lab ac re un) i = false) : bt ac i = false ∧ bt re i = false ∧ bt un i = false := by
  refine ⟨bf fun q => ?_, bf fun q => ?_, bf fun q => ?_⟩
  · rw [lab_bit.mpr (Or.inl q)] at h; cases h
  · rw [lab_bit.mpr (Or.inr (Or.inl q))] at h; cases h
  · rw [lab_bit.mpr (Or.inr (Or.inr q))] at h; cases h
theorem opn_bit {e ac re un : Int32} {i : Nat} : bt (x_opn e ac re un) i = true ↔ bt e i = true ∧ bt (lab ac re un) i = false := by
  unfold x_opn
  rw [b_andnot, Bool.and_eq_true]
  show _ ∧ (!bt (lab ac re un) i) = true ↔ _
  cases bt (lab ac re un) i <;> simp
theorem lw_le (o : Int32) : ∀ f, f ≤ 7 → x_lw o f ≤ 7
  | 0, _ => Nat.le_refl 7
  | f + 1, h => by
    rw [x_lw]
    by_cases c : ((o >>> (nI (6 - f) &&& 31)) &&& 1) = 0
    · rw [if_pos c]; exact lw_le o f (by omega)
    · rw [if_neg c]; omega
theorem lw_bit8 : ∀ q, q < 256 → ¬ nI q = 0 → bt (nI q) (x_lw (nI q) 7) = true := by decide +kernel
theorem lw_one8 : ∀ q, q < 256 → (nI q &&& (nI q - 1)) = 0 → ∀ i, i < 8 → bt (nI q) i = true → x_lw (nI q) 7 = i := by decide +kernel
theorem lw_bit {o : Int32} (h : Mk 8 o) (hz : ¬ o = 0) : bt o (x_lw o 7) = true := by
  obtain ⟨q, hq, rfl⟩ := Mk_num (Nat.le_refl 8) h
  exact lw_bit8 q hq hz
theorem lw_one {o : Int32} (h : Mk 8 o) (hs : (o &&& (o - 1)) = 0) {i : Nat} (hi : bt o i = true) : x_lw o 7 = i := by
  have h8 := h i hi
  obtain ⟨q, hq, rfl⟩ := Mk_num (Nat.le_refl 8) h
  exact lw_one8 q hq hs i h8 hi
section LA
variable {ν : Nat} {R : Nat → Nat → Prop} {E ev by_ ac re un ch r ac' re' un' ch' : Int32} {j : Nat}
/-- a label on an open argument -/
theorem lab_str (hv : ν ≤ 8) (hj : j < ν) (ho : bt (lab ac re un) j = false) (hM : Mk3 ν ac re un) {how : Int32} (h : (ac', re', un', ch') = x_lab (nI j) how ac re un) : ch' = 1 ∧ Mk3 ν ac' re' un' ∧ cn8 (lab ac re un) + 1 ≤ cn8 (lab ac' re' un') := by
  have hj32 : j < 32 := by omega
  obtain ⟨m1, m2, m3⟩ := hM
  unfold x_lab at h
  by_cases c0 : how = 0
  · rw [if_pos c0] at h
    cases h
    refine ⟨rfl, ⟨Mk_b1 hj32 m1 hj, m2, m3⟩, cn8_strict (j := j) (fun i hi => ?_) (by omega) ho (lab_bit.mpr (Or.inl ((b_orb1 hj32).mpr (Or.inr rfl))))⟩
    rcases lab_bit.mp hi with q | q | q
    · exact lab_bit.mpr (Or.inl ((b_orb1 hj32).mpr (Or.inl q)))
    · exact lab_bit.mpr (Or.inr (Or.inl q))
    · exact lab_bit.mpr (Or.inr (Or.inr q))
  · rw [if_neg c0] at h
    by_cases c1 : how = 1
    · rw [if_pos c1] at h
      cases h
      refine ⟨rfl, ⟨m1, Mk_b1 hj32 m2 hj, m3⟩, cn8_strict (j := j) (fun i hi => ?_) (by omega) ho (lab_bit.mpr (Or.inr (Or.inl ((b_orb1 hj32).mpr (Or.inr rfl)))))⟩
      rcases lab_bit.mp hi with q | q | q
      · exact lab_bit.mpr (Or.inl q)
      · exact lab_bit.mpr (Or.inr (Or.inl ((b_orb1 hj32).mpr (Or.inl q))))
      · exact lab_bit.mpr (Or.inr (Or.inr q))
    · rw [if_neg c1] at h
      cases h
      refine ⟨rfl, ⟨m1, m2, Mk_b1 hj32 m3 hj⟩, cn8_strict (j := j) (fun i hi => ?_) (by omega) ho (lab_bit.mpr (Or.inr (Or.inr ((b_orb1 hj32).mpr (Or.inr rfl)))))⟩
      rcases lab_bit.mp hi with q | q | q
      · exact lab_bit.mpr (Or.inl q)
      · exact lab_bit.mpr (Or.inr (Or.inl q))
      · exact lab_bit.mpr (Or.inr (Or.inr ((b_orb1 hj32).mpr (Or.inl q))))
/-- what a label says of a set -/
def lbl (R : Nat → Nat → Prop) (E : Int32) (how : Int32) (j : Nat) : Prop := if how = 0 then bt E j = true else if how = 1 then att R E j else ¬ bt E j = true ∧ ¬ att R E j
theorem lab_fit (hj : j < 32) (hf : fit R E ac re un) {how : Int32} (hl : lbl R E how j) (h : (ac', re', un', ch') = x_lab (nI j) how ac re un) : fit R E ac' re' un' := by
  obtain ⟨f1, f2, f3⟩ := hf
  unfold x_lab at h
  unfold lbl at hl
  by_cases c0 : how = 0
  · rw [if_pos c0] at h hl
    cases h
    exact ⟨fun i hi => ((b_orb1 hj).mp hi).elim (f1 i) (fun e => e ▸ hl), f2, f3⟩
  · rw [if_neg c0] at h hl
    by_cases c1 : how = 1
    · rw [if_pos c1] at h hl
      cases h
      exact ⟨f1, fun i hi => ((b_orb1 hj).mp hi).elim (f2 i) (fun e => e ▸ hl), f3⟩
    · rw [if_neg c1] at h hl
      cases h
      exact ⟨f1, f2, fun i hi => ((b_orb1 hj).mp hi).elim (f3 i) (fun e => e ▸ hl)⟩
theorem no_un (hf : fit R E ac re un) {i : Nat} (h : bt E i = true ∨ att R E i) : bt un i = false := bf fun q => h.elim (hf.2.2 i q).1 (hf.2.2 i q).2
theorem no_ac (hE : com ν R E) (hf : fit R E ac re un) {i : Nat} (h : att R E i) : bt ac i = false := bf fun q => hE.1.1 i (hf.1 i q) h
theorem no_re (hE : com ν R E) (hf : fit R E ac re un) {i : Nat} (h : bt E i = true) : bt re i = false := bf fun q => hE.1.1 i h (hf.2.1 i q)
theorem con_fit (hv : ν ≤ 8) (hR : ∀ a b, R a b → a < ν ∧ b < ν) (hby : ∀ c, bt by_ c = true ↔ R c j) (hj : j < ν) (hE : com ν R E) (hf : fit R E ac re un) (hev : ev = nI (allN ν)) (h : (r, (ac', re', un', ch')) = x_con ev by_ (nI j) ac re un ch) : r = 1 ∧ fit R E ac' re' un' := by
  have hj32 : j < 32 := by omega
  rw [x_con] at h
  by_cases c1 : (by_ &&& ac) = 0
  · rw [if_pos c1] at h
    by_cases c2 : (by_ &&& (re ^^^ (-1))) = 0
    · have hEj : bt E j = true := hE.2 j ⟨hj, fun c hc => hf.2.1 c (b_sub.mp c2 c ((hby c).mpr hc))⟩
      have c3 : ((re ||| un) &&& b1 (nI j)) = 0 := (b_meet1 hj32).mpr (by rw [b_or, no_re hE hf hEj, no_un hf (Or.inl hEj)]; rfl)
      rw [if_pos c2, if_pos c3] at h
      by_cases c4 : (x_opn ev ac re un &&& b1 (nI j)) = 0
      · rw [if_pos c4] at h; cases h; exact ⟨rfl, hf⟩
      · rw [if_neg c4] at h
        have h1 := congrArg Prod.fst h
        have h2 := congrArg Prod.snd h
        exact ⟨h1, lab_fit hj32 hf (how := 0) (by unfold lbl; rw [if_pos rfl]; exact hEj) h2⟩
    · rw [if_neg c2] at h
      by_cases c3 : (by_ &&& x_opn ev ac re un) = 0
      · rw [if_pos c3] at h
        by_cases c4 : (x_opn ev ac re un &&& b1 (nI j)) = 0
        · rw [if_pos c4] at h; cases h; exact ⟨rfl, hf⟩
        · rw [if_neg c4] at h
          have h1 := congrArg Prod.fst h
          have h2 := congrArg Prod.snd h
          have all : ∀ c, R c j → bt re c = true ∨ bt un c = true := by
            intro c hc
            have hb := (hby c).mpr hc
            refine Classical.byContradiction fun q => b_meet.mp c3 c hb (opn_bit.mpr ⟨?_, bf fun z => ?_⟩)
            · rw [hev, b_all' hv]; exact (hR c j hc).1
            · rcases lab_bit.mp z with z | z | z
              · exact b_meet.mp c1 c hb z
              · exact q (Or.inl z)
              · exact q (Or.inr z)
          have na : ¬ att R E j := by
            rintro ⟨c, hc, hr⟩
            rcases all c hr with z | z
            · exact hE.1.1 c hc (hf.2.1 c z)
            · exact (hf.2.2 c z).1 hc
          have ne : ¬ bt E j = true := by
            intro q
            obtain ⟨c, hb, hre⟩ := b_nsub c2
            have hr := (hby c).mp hb
            rcases all c hr with z | z
            · rw [z] at hre; cases hre
            · exact (hf.2.2 c z).2 ((hE.1.2 j q).2 c hr)
          exact ⟨h1, lab_fit hj32 hf (how := 2) (by unfold lbl; rw [if_neg (by decide), if_neg (by decide)]; exact ⟨ne, na⟩) h2⟩
      · rw [if_neg c3] at h; cases h; exact ⟨rfl, hf⟩
  · rw [if_neg c1] at h
    obtain ⟨c, hb, hc⟩ := b_nmeet c1
    have ha : att R E j := ⟨c, hf.1 c hc, (hby c).mp hb⟩
    have c3 : ((ac ||| un) &&& b1 (nI j)) = 0 := (b_meet1 hj32).mpr (by rw [b_or, no_ac hE hf ha, no_un hf (Or.inr ha)]; rfl)
    rw [if_pos c3] at h
    by_cases c4 : (x_opn ev ac re un &&& b1 (nI j)) = 0
    · rw [if_pos c4] at h; cases h; exact ⟨rfl, hf⟩
    · rw [if_neg c4] at h
      have h1 := congrArg Prod.fst h
      have h2 := congrArg Prod.snd h
      exact ⟨h1, lab_fit hj32 hf (how := 1) (by unfold lbl; rw [if_neg (by decide), if_pos rfl]; exact ha) h2⟩
theorem opn_Mk (hb : Mk ν by_) : Mk ν (x_opn by_ ac re un) := fun i hi => hb i (opn_bit.mp hi).1
/-- the second half of support: the one that is wanted is open -/
theorem sup2_fit (hv : ν ≤ 8) (hM : Mk ν by_) (hf : fit R E ac re un) {how wanted : Int32} {c : Nat} (hc : wanted = 0 → bt (x_opn by_ ac re un) c = true ∧ lbl R E how c) (h : (r, (ac', re', un', ch')) = x_sup2 (x_opn by_ ac re un) how wanted ac re un ch) : r = 1 ∧ fit R E ac' re' un' := by
  rw [x_sup2] at h
  by_cases c1 : wanted = 0
  · obtain ⟨ho, hl⟩ := hc c1
    have c2 : ¬ x_opn by_ ac re un = 0 := fun q => by rw [q, b_0] at ho; cases ho
    have m8 : Mk 8 (x_opn by_ ac re un) := fun i hi => Nat.lt_of_lt_of_le (opn_Mk hM i hi) hv
    rw [if_pos c1, if_neg c2] at h
    by_cases c3 : (x_opn by_ ac re un &&& (x_opn by_ ac re un - 1)) = 0
    · rw [if_pos c3, lw_one m8 c3 ho] at h
      have h1 := congrArg Prod.fst h
      have h2 := congrArg Prod.snd h
      exact ⟨h1, lab_fit (b_lt ho) hf hl h2⟩
    · rw [if_neg c3] at h; cases h; exact ⟨rfl, hf⟩
  · rw [if_neg c1] at h; cases h; exact ⟨rfl, hf⟩
theorem sup_fit (hv : ν ≤ 8) (hR : ∀ a b, R a b → a < ν ∧ b < ν) (hby : ∀ c, bt by_ c = true ↔ R c j) (hj : j < ν) (hE : com ν R E) (hf : fit R E ac re un) (h : (r, (ac', re', un', ch')) = x_sup by_ (nI j) ac re un ch) : r = 1 ∧ fit R E ac' re' un' := by
  have hj32 : j < 32 := by omega
  have hM : Mk ν by_ := fun i hi => (hR i j ((hby i).mp hi)).1
  rw [x_sup] at h
  by_cases c1 : ((ac >>> (nI j &&& 31)) &&& 1) = 0
  · rw [if_pos c1] at h
    by_cases c2 : ((re >>> (nI j &&& 31)) &&& 1) = 0
    · rw [if_pos c2] at h
      by_cases c3 : ((un >>> (nI j &&& 31)) &&& 1) = 0
      · rw [if_pos c3] at h; cases h; exact ⟨rfl, hf⟩
      · rw [if_neg c3] at h
        have hu := hf.2.2 j ((b_bitn hj32).mp c3)
        have nd : ∃ c, R c j ∧ ¬ att R E c := by
          refine Classical.byContradiction fun q => hu.1 (hE.2 j ⟨hj, fun c hc => ?_⟩)
          exact Classical.byContradiction fun z => q ⟨c, hc, z⟩
        obtain ⟨c, hc, hna⟩ := nd
        have hne : ¬ bt E c = true := fun q => hu.2 ⟨c, q, hc⟩
        refine sup2_fit hv hM hf (how := 2) (c := c) (fun w => ⟨opn_bit.mpr ⟨(hby c).mpr hc, bf fun z => ?_⟩, ?_⟩) h
        · rcases lab_bit.mp z with z | z | z
          · exact hne (hf.1 c z)
          · exact hna (hf.2.1 c z)
          · exact b_meet.mp w c ((hby c).mpr hc) z
        · unfold lbl; rw [if_neg (by decide), if_neg (by decide)]; exact ⟨hne, hna⟩
    · rw [if_neg c2] at h
      obtain ⟨c, hc, hr⟩ := hf.2.1 j ((b_bitn hj32).mp c2)
      refine sup2_fit hv hM hf (how := 0) (c := c) (fun w => ⟨opn_bit.mpr ⟨(hby c).mpr hr, bf fun z => ?_⟩, ?_⟩) h
      · rcases lab_bit.mp z with z | z | z
        · exact b_meet.mp w c ((hby c).mpr hr) z
        · rw [no_re hE hf hc] at z; cases z
        · rw [no_un hf (Or.inl hc)] at z; cases z
      · unfold lbl; rw [if_pos rfl]; exact hc
  · rw [if_neg c1] at h
    have hEj : bt E j = true := hf.1 j ((b_bitn hj32).mp c1)
    have hat : ∀ c, R c j → att R E c := (hE.1.2 j hEj).2
    have c2 : (by_ &&& (ac ||| un)) = 0 := by
      refine b_meet.mpr fun c hb z => ?_
      have ha := hat c ((hby c).mp hb)
      rw [b_or, no_ac hE hf ha, no_un hf (Or.inr ha)] at z
      cases z
    rw [if_pos c2] at h
    by_cases c3 : x_opn by_ ac re un = 0
    · rw [if_pos c3] at h; cases h; exact ⟨rfl, hf⟩
    · rw [if_neg c3] at h
      cases h
      refine ⟨rfl, hf.1, fun i hi => ?_, hf.2.2⟩
      rw [b_or, Bool.or_eq_true] at hi
      rcases hi with z | z
      · exact hf.2.1 i z
      · exact hat i ((hby i).mp (opn_bit.mp z).1)
/-- what a step leaves: nothing new, or a label more -/
def Str (ν : Nat) (ac re un ch r ac' re' un' ch' : Int32) : Prop := (r = 0 ∨ r = 1) ∧ Mk3 ν ac' re' un' ∧ ((ac', re', un', ch') = (ac, re, un, ch) ∨ (ch' = 1 ∧ cn8 (lab ac re un) + 1 ≤ cn8 (lab ac' re' un')))
theorem str_same (hM : Mk3 ν ac re un) (hr : r = 0 ∨ r = 1) : Str ν ac re un ch r ac re un ch := ⟨hr, hM, Or.inl rfl⟩
theorem con_str (hv : ν ≤ 8) (hj : j < ν) (hM : Mk3 ν ac re un) (h : (r, (ac', re', un', ch')) = x_con ev by_ (nI j) ac re un ch) : Str ν ac re un ch r ac' re' un' ch' := by
  have hj32 : j < 32 := by omega
  have go : ∀ {how : Int32}, ¬ (x_opn ev ac re un &&& b1 (nI j)) = 0 → (r, (ac', re', un', ch')) = (1, x_lab (nI j) how ac re un) → Str ν ac re un ch r ac' re' un' ch' := by
    intro how c h
    have h1 := congrArg Prod.fst h
    have h2 := congrArg Prod.snd h
    have ho : bt (lab ac re un) j = false := by
      rw [b_meet1 hj32] at c
      have : bt (x_opn ev ac re un) j = true := by cases e : bt (x_opn ev ac re un) j; exact absurd e c; rfl
      exact (opn_bit.mp this).2
    obtain ⟨q1, q2, q3⟩ := lab_str hv hj ho hM h2
    exact ⟨Or.inr h1, q2, Or.inr ⟨q1, q3⟩⟩
  rw [x_con] at h
  by_cases c1 : (by_ &&& ac) = 0
  · rw [if_pos c1] at h
    by_cases c2 : (by_ &&& (re ^^^ (-1))) = 0
    · rw [if_pos c2] at h
      by_cases c3 : ((re ||| un) &&& b1 (nI j)) = 0
      · rw [if_pos c3] at h
        by_cases c4 : (x_opn ev ac re un &&& b1 (nI j)) = 0
        · rw [if_pos c4] at h; cases h; exact str_same hM (Or.inr rfl)
        · rw [if_neg c4] at h; exact go c4 h
      · rw [if_neg c3] at h; cases h; exact str_same hM (Or.inl rfl)
    · rw [if_neg c2] at h
      by_cases c3 : (by_ &&& x_opn ev ac re un) = 0
      · rw [if_pos c3] at h
        by_cases c4 : (x_opn ev ac re un &&& b1 (nI j)) = 0
        · rw [if_pos c4] at h; cases h; exact str_same hM (Or.inr rfl)
        · rw [if_neg c4] at h; exact go c4 h
      · rw [if_neg c3] at h; cases h; exact str_same hM (Or.inr rfl)
  · rw [if_neg c1] at h
    by_cases c3 : ((ac ||| un) &&& b1 (nI j)) = 0
    · rw [if_pos c3] at h
      by_cases c4 : (x_opn ev ac re un &&& b1 (nI j)) = 0
      · rw [if_pos c4] at h; cases h; exact str_same hM (Or.inr rfl)
      · rw [if_neg c4] at h; exact go c4 h
    · rw [if_neg c3] at h; cases h; exact str_same hM (Or.inl rfl)
theorem sup2_str (hv : ν ≤ 8) (hb : Mk ν by_) (hM : Mk3 ν ac re un) {how wanted : Int32} (h : (r, (ac', re', un', ch')) = x_sup2 (x_opn by_ ac re un) how wanted ac re un ch) : Str ν ac re un ch r ac' re' un' ch' := by
  rw [x_sup2] at h
  by_cases c1 : wanted = 0
  · rw [if_pos c1] at h
    by_cases c2 : x_opn by_ ac re un = 0
    · rw [if_pos c2] at h; cases h; exact str_same hM (Or.inl rfl)
    · rw [if_neg c2] at h
      by_cases c3 : (x_opn by_ ac re un &&& (x_opn by_ ac re un - 1)) = 0
      · rw [if_pos c3] at h
        have h1 := congrArg Prod.fst h
        have h2 := congrArg Prod.snd h
        have m8 : Mk 8 (x_opn by_ ac re un) := fun i hi => Nat.lt_of_lt_of_le (opn_Mk hb i hi) hv
        have hbit := lw_bit m8 c2
        obtain ⟨q1, q2, q3⟩ := lab_str hv (opn_Mk hb _ hbit) (opn_bit.mp hbit).2 hM h2
        exact ⟨Or.inr h1, q2, Or.inr ⟨q1, q3⟩⟩
      · rw [if_neg c3] at h; cases h; exact str_same hM (Or.inr rfl)
  · rw [if_neg c1] at h; cases h; exact str_same hM (Or.inr rfl)
theorem sup_str (hv : ν ≤ 8) (hb : Mk ν by_) (hM : Mk3 ν ac re un) (h : (r, (ac', re', un', ch')) = x_sup by_ (nI j) ac re un ch) : Str ν ac re un ch r ac' re' un' ch' := by
  rw [x_sup] at h
  by_cases c1 : ((ac >>> (nI j &&& 31)) &&& 1) = 0
  · rw [if_pos c1] at h
    by_cases c2 : ((re >>> (nI j &&& 31)) &&& 1) = 0
    · rw [if_pos c2] at h
      by_cases c3 : ((un >>> (nI j &&& 31)) &&& 1) = 0
      · rw [if_pos c3] at h; cases h; exact str_same hM (Or.inr rfl)
      · rw [if_neg c3] at h; exact sup2_str hv hb hM h
    · rw [if_neg c2] at h; exact sup2_str hv hb hM h
  · rw [if_neg c1] at h
    by_cases c2 : (by_ &&& (ac ||| un)) = 0
    · rw [if_pos c2] at h
      by_cases c3 : x_opn by_ ac re un = 0
      · rw [if_pos c3] at h; cases h; exact str_same hM (Or.inr rfl)
      · rw [if_neg c3] at h
        cases h
        obtain ⟨i, -, hi⟩ := b_nz c3
        refine ⟨Or.inr rfl, ⟨hM.1, Mk_or hM.2.1 (opn_Mk hb), hM.2.2⟩, Or.inr ⟨rfl, cn8_strict (j := i) (fun z hz => ?_) (Nat.lt_of_lt_of_le (opn_Mk hb i hi) hv) (opn_bit.mp hi).2 (lab_bit.mpr (Or.inr (Or.inl ?_)))⟩⟩
        · rcases lab_bit.mp hz with q | q | q
          · exact lab_bit.mpr (Or.inl q)
          · exact lab_bit.mpr (Or.inr (Or.inl (by rw [b_or, q]; rfl)))
          · exact lab_bit.mpr (Or.inr (Or.inr q))
        · rw [b_or, hi, Bool.or_true]
    · rw [if_neg c2] at h; cases h; exact str_same hM (Or.inl rfl)
end LA
end
section
/-! propagate: what holds in its loops; a finished labelling is complete -/
def stb (ev by_ : Int32) (j : Nat) (ac re un : Int32) : Prop := x_con ev by_ (nI j) ac re un 0 = (1, (ac, re, un, 0)) ∧ x_sup by_ (nI j) ac re un 0 = (1, (ac, re, un, 0))
section PR
variable {ν : Nat} {R : Nat → Nat → Prop} {at_ : Nat → Int32} {E ev by_ ac re un ch r ac' re' un' ch' ac0 re0 un0 : Int32} {j k t : Nat}
theorem stb_c1 (hj : j < 32) (h : stb ev by_ j ac re un) (c : ¬ (by_ &&& ac) = 0) : bt ac j = false ∧ bt un j = false := by
  have h := h.1
  rw [x_con, if_neg c] at h
  by_cases c3 : ((ac ||| un) &&& b1 (nI j)) = 0
  · rw [b_meet1 hj, b_or, Bool.or_eq_false_iff] at c3
    exact c3
  · rw [if_neg c3] at h
    exact absurd (congrArg Prod.fst h) (by show ¬ (0 : Int32) = 1; decide)
theorem stb_c2 (hj : j < 32) (h : stb ev by_ j ac re un) (c : (by_ &&& ac) = 0) (c2 : (by_ &&& (re ^^^ (-1))) = 0) : bt re j = false ∧ bt un j = false := by
  have h := h.1
  rw [x_con, if_pos c, if_pos c2] at h
  by_cases c3 : ((re ||| un) &&& b1 (nI j)) = 0
  · rw [b_meet1 hj, b_or, Bool.or_eq_false_iff] at c3
    exact c3
  · rw [if_neg c3] at h
    exact absurd (congrArg Prod.fst h) (by show ¬ (0 : Int32) = 1; decide)
theorem stb_s1 (hj : j < 32) (h : stb ev by_ j ac re un) (c : bt ac j = true) : (by_ &&& (ac ||| un)) = 0 := by
  have h := h.2
  rw [x_sup, if_neg ((b_bitn hj).mpr c)] at h
  by_cases c3 : (by_ &&& (ac ||| un)) = 0
  · exact c3
  · rw [if_neg c3] at h
    exact absurd (congrArg Prod.fst h) (by show ¬ (0 : Int32) = 1; decide)
theorem stb_s2 (hj : j < 32) (h : stb ev by_ j ac re un) (ho : x_opn by_ ac re un = 0) (c : bt ac j = false) (c2 : bt re j = true) : ¬ (by_ &&& ac) = 0 := by
  have h := h.2
  intro w
  rw [x_sup, if_pos ((b_bit0 hj).mpr c), if_neg ((b_bitn hj).mpr c2), x_sup2, if_pos w, if_pos ho] at h
  exact absurd (congrArg Prod.fst h) (by show ¬ (0 : Int32) = 1; decide)
theorem stb_com (hv : ν ≤ 8) (hR : ∀ a b, R a b → a < ν ∧ b < ν) (hat : ∀ b, b < 8 → ∀ a, bt (at_ b) a = true ↔ R a b) (hev : ev = nI (allN ν)) (hM : Mk3 ν ac re un) (ho : x_opn ev ac re un = 0) (hs : ∀ a, a < ν → stb ev (at_ a) a ac re un) : com ν R ac ∧ ∀ i, bt re i = true ↔ att R ac i := by
  have L : ∀ i, i < ν → bt (lab ac re un) i = true := by
    intro i hi
    refine Classical.byContradiction fun q => ?_
    have z : bt (x_opn ev ac re un) i = true := opn_bit.mpr ⟨by rw [hev]; exact (b_all' hv).mpr hi, bf q⟩
    rw [ho, b_0] at z; cases z
  have O : ∀ j, j < ν → x_opn (at_ j) ac re un = 0 := by
    intro j hj
    refine b_zero.mpr fun i _ => bf fun q => ?_
    obtain ⟨q1, q2⟩ := opn_bit.mp q
    rw [L i (hR i j ((hat j (by omega) i).mp q1)).1] at q2
    cases q2
  have C1 : ∀ j, att R ac j → bt re j = true := by
    rintro j ⟨c, h1, h2⟩
    have hj := (hR c j h2).2
    have hc : ¬ (at_ j &&& ac) = 0 := fun q => b_meet.mp q c ((hat j (by omega) c).mpr h2) h1
    obtain ⟨n1, n2⟩ := stb_c1 (by omega) (hs j hj) hc
    rcases lab_bit.mp (L j hj) with z | z | z
    · rw [n1] at z; cases z
    · exact z
    · rw [n2] at z; cases z
  have C2 : ∀ j, j < ν → ¬ att R ac j → (∀ c, R c j → bt re c = true) → bt re j = false ∧ bt ac j = true := by
    intro j hj na al
    have h1 : (at_ j &&& ac) = 0 := b_meet.mpr fun c q1 q2 => na ⟨c, q2, (hat j (by omega) c).mp q1⟩
    have h2 : (at_ j &&& (re ^^^ (-1))) = 0 := b_sub.mpr fun c q => al c ((hat j (by omega) c).mp q)
    obtain ⟨n1, n2⟩ := stb_c2 (by omega) (hs j hj) h1 h2
    refine ⟨n1, ?_⟩
    rcases lab_bit.mp (L j hj) with z | z | z
    · exact z
    · rw [n1] at z; cases z
    · rw [n2] at z; cases z
  have S1 : ∀ j, bt ac j = true → ∀ c, R c j → bt ac c = false ∧ bt re c = true := by
    intro j hj c hc
    have hl := hR c j hc
    have hm := stb_s1 (by omega) (hs j hl.2) hj
    have nn : ¬ bt (ac ||| un) c = true := fun q => b_meet.mp hm c ((hat j (by omega) c).mpr hc) q
    rw [b_or, Bool.or_eq_true] at nn
    rcases lab_bit.mp (L c hl.1) with z | z | z
    · exact absurd (Or.inl z) nn
    · exact ⟨bf fun q => nn (Or.inl q), z⟩
    · exact absurd (Or.inr z) nn
  have S2 : ∀ j, j < ν → bt ac j = false → bt re j = true → att R ac j := by
    intro j hj h1 h2
    obtain ⟨c, q1, q2⟩ := b_nmeet (stb_s2 (by omega) (hs j hj) (O j hj) h1 h2)
    exact ⟨c, q2, (hat j (by omega) c).mp q1⟩
  have cf : cfr R ac := by
    rintro b hb ⟨c, h1, h2⟩
    rw [(S1 b hb c h2).1] at h1
    cases h1
  have co : com ν R ac := by
    refine ⟨⟨cf, fun b hb => ⟨hM.1 b hb, fun c hc => ?_⟩⟩, fun b d => ?_⟩
    · obtain ⟨q1, q2⟩ := S1 b hb c hc
      exact S2 c (hR c b hc).1 q1 q2
    · refine (C2 b d.1 ?_ (fun c hc => C1 c (d.2 c hc))).2
      rintro ⟨c, q1, q2⟩
      exact cf c q1 (d.2 c q2)
  refine ⟨co, fun i => ⟨fun h => ?_, C1 i⟩⟩
  have hi := hM.2.1 i h
  cases e : bt ac i with
  | false => exact S2 i hi e h
  | true =>
    have := (C2 i hi (cf i e) (fun c hc => (S1 i e c hc).2)).1
    rw [h] at this
    cases this
/-- in the inner loop: k arguments are done in round t -/
def pI (ν : Nat) (R : Nat → Nat → Prop) (ev : Int32) (at_ : Nat → Int32) (ac0 re0 un0 : Int32) (k t : Nat) (ac re un ch : Int32) : Prop :=
  Mk3 ν ac re un ∧ cn8 (lab ac0 re0 un0) ≤ cn8 (lab ac re un) ∧ (∀ E, com ν R E → fit R E ac0 re0 un0 → fit R E ac re un) ∧
  ((ch = 0 ∧ t ≤ cn8 (lab ac re un) ∧ ∀ a, a < k → stb ev (at_ a) a ac re un) ∨ (ch = 1 ∧ t + 1 ≤ cn8 (lab ac re un)))
/-- between conclude and support -/
def pJ (ν : Nat) (R : Nat → Nat → Prop) (ev : Int32) (at_ : Nat → Int32) (ac0 re0 un0 : Int32) (k t : Nat) (ac re un ch : Int32) : Prop :=
  Mk3 ν ac re un ∧ cn8 (lab ac0 re0 un0) ≤ cn8 (lab ac re un) ∧ (∀ E, com ν R E → fit R E ac0 re0 un0 → fit R E ac re un) ∧
  ((ch = 0 ∧ t ≤ cn8 (lab ac re un) ∧ (∀ a, a < k → stb ev (at_ a) a ac re un) ∧ x_con ev (at_ k) (nI k) ac re un 0 = (1, (ac, re, un, 0))) ∨ (ch = 1 ∧ t + 1 ≤ cn8 (lab ac re un)))
/-- at the head of a round -/
def pO (ν : Nat) (R : Nat → Nat → Prop) (ev : Int32) (at_ : Nat → Int32) (ac0 re0 un0 : Int32) (t : Nat) (ac re un ch : Int32) : Prop :=
  Mk3 ν ac re un ∧ cn8 (lab ac0 re0 un0) ≤ cn8 (lab ac re un) ∧ (∀ E, com ν R E → fit R E ac0 re0 un0 → fit R E ac re un) ∧
  ((ch = 0 ∧ ∀ a, a < ν → stb ev (at_ a) a ac re un) ∨ (ch = 1 ∧ t ≤ cn8 (lab ac re un)))
def x_prp (ν : Nat) (R : Nat → Nat → Prop) (ev : Int32) (at_ : Nat → Int32) (ac re un r : Int32) (u : Lb) : Prop :=
  (r = 0 ∧ ∀ E, com ν R E → ¬ fit R E ac re un) ∨
  (r = 1 ∧ Mk3 ν u.1 u.2.1 u.2.2.1 ∧ cn8 (lab ac re un) ≤ cn8 (lab u.1 u.2.1 u.2.2.1) ∧ (∀ E, com ν R E → fit R E ac re un → fit R E u.1 u.2.1 u.2.2.1) ∧ ∀ a, a < ν → stb ev (at_ a) a u.1 u.2.1 u.2.2.1)
theorem pO_0 (hM : Mk3 ν ac re un) : pO ν R ev at_ ac re un 0 ac re un 1 := ⟨hM, Nat.le_refl _, fun _ _ h => h, Or.inr ⟨rfl, Nat.zero_le _⟩⟩
theorem pO_in (h : pO ν R ev at_ ac0 re0 un0 t ac re un ch) (c : ¬ ch = 0) : pI ν R ev at_ ac0 re0 un0 0 t ac re un 0 := by
  obtain ⟨h1, h2, h3, h4⟩ := h
  rcases h4 with h4 | h4
  · exact absurd h4.1 c
  · exact ⟨h1, h2, h3, Or.inl ⟨rfl, h4.2, lt_0⟩⟩
theorem pI_out (h : pI ν R ev at_ ac0 re0 un0 ν t ac re un ch) : pO ν R ev at_ ac0 re0 un0 (t + 1) ac re un ch := by
  obtain ⟨h1, h2, h3, h4⟩ := h
  rcases h4 with ⟨q1, -, q3⟩ | h4
  · exact ⟨h1, h2, h3, Or.inl ⟨q1, q3⟩⟩
  · exact ⟨h1, h2, h3, Or.inr h4⟩
theorem pO_end (h : pO ν R ev at_ ac0 re0 un0 t ac re un ch) (c : ch = 0 ∨ t = 10) : x_prp ν R ev at_ ac0 re0 un0 1 (ac, re, un, ch) := by
  obtain ⟨h1, h2, h3, h4⟩ := h
  refine Or.inr ⟨rfl, h1, h2, h3, ?_⟩
  rcases h4 with h4 | ⟨q1, q2⟩
  · exact h4.2
  · rcases c with c | c
    · rw [c] at q1; exact absurd q1 (by decide)
    · have := cn8_le (lab ac re un); omega
theorem pI_con (hv : ν ≤ 8) (hR : ∀ a b, R a b → a < ν ∧ b < ν) (hat : ∀ b, b < 8 → ∀ a, bt (at_ b) a = true ↔ R a b) (hev : ev = nI (allN ν)) (hk : k < ν) (h : pI ν R ev at_ ac0 re0 un0 k t ac re un ch) (e : (r, (ac', re', un', ch')) = x_con ev (at_ k) (nI k) ac re un ch) :
    (r = 0 → ∀ E, com ν R E → ¬ fit R E ac0 re0 un0) ∧ (¬ r = 0 → pJ ν R ev at_ ac0 re0 un0 k t ac' re' un' ch') := by
  obtain ⟨h1, h2, h3, h4⟩ := h
  have hby := hat k (by omega)
  refine ⟨fun z E hE hf => ?_, fun z => ?_⟩
  · have := (con_fit hv hR hby hk hE (h3 E hE hf) hev e).1
    rw [z] at this; exact absurd this (by decide)
  · obtain ⟨s1, s2, s3⟩ := con_str hv hk h1 e
    have hr : r = 1 := s1.resolve_left z
    refine ⟨s2, ?_, fun E hE hf => (con_fit hv hR hby hk hE (h3 E hE hf) hev e).2, ?_⟩
    · rcases s3 with s3 | s3
      · cases s3; exact h2
      · omega
    · rcases s3 with s3 | ⟨s3, s4⟩
      · cases s3
        rcases h4 with ⟨q1, q2, q3⟩ | h4
        · subst q1
          rw [hr] at e
          exact Or.inl ⟨rfl, q2, q3, e.symm⟩
        · exact Or.inr h4
      · refine Or.inr ⟨s3, ?_⟩
        rcases h4 with h4 | h4 <;> omega
theorem pJ_sup (hv : ν ≤ 8) (hR : ∀ a b, R a b → a < ν ∧ b < ν) (hat : ∀ b, b < 8 → ∀ a, bt (at_ b) a = true ↔ R a b) (hk : k < ν) (h : pJ ν R ev at_ ac0 re0 un0 k t ac re un ch) (e : (r, (ac', re', un', ch')) = x_sup (at_ k) (nI k) ac re un ch) :
    (r = 0 → ∀ E, com ν R E → ¬ fit R E ac0 re0 un0) ∧ (¬ r = 0 → pI ν R ev at_ ac0 re0 un0 (k + 1) t ac' re' un' ch') := by
  obtain ⟨h1, h2, h3, h4⟩ := h
  have hby := hat k (by omega)
  have hb : Mk ν (at_ k) := fun i hi => (hR i k ((hby i).mp hi)).1
  refine ⟨fun z E hE hf => ?_, fun z => ?_⟩
  · have := (sup_fit hv hR hby hk hE (h3 E hE hf) e).1
    rw [z] at this; exact absurd this (by decide)
  · obtain ⟨s1, s2, s3⟩ := sup_str hv hb h1 e
    have hr : r = 1 := s1.resolve_left z
    refine ⟨s2, ?_, fun E hE hf => (sup_fit hv hR hby hk hE (h3 E hE hf) e).2, ?_⟩
    · rcases s3 with s3 | s3
      · cases s3; exact h2
      · omega
    · rcases s3 with s3 | ⟨s3, s4⟩
      · cases s3
        rcases h4 with ⟨q1, q2, q3, q4⟩ | h4
        · subst q1
          rw [hr] at e
          exact Or.inl ⟨rfl, q2, lt_s q3 ⟨q4, e.symm⟩⟩
        · exact Or.inr h4
      · refine Or.inr ⟨s3, ?_⟩
        rcases h4 with h4 | h4 <;> omega
end PR
end
section
/-! the grounded set, the search and what it leaves in kinds -/
section GD
variable {ν : Nat} {R : Nat → Nat → Prop} {at_ tg : Nat → Int32} {ac re ch : Int32} {k t : Nat}
def pre (ν : Nat) (R : Nat → Nat → Prop) (F : Int32) : Prop := ∀ b, dfd ν R F b → bt F b = true
def gB (ν : Nat) (R : Nat → Nat → Prop) (ac re : Int32) : Prop := Mk ν ac ∧ (∀ i, bt re i = true ↔ att R ac i) ∧ ∀ F, Mk ν F → pre ν R F → sub ac F
def gD (at_ : Nat → Int32) (ac re : Int32) (a : Nat) : Prop := (at_ a &&& (re ^^^ (-1))) = 0 → bt ac a = true
def gI (ν : Nat) (R : Nat → Nat → Prop) (at_ : Nat → Int32) (k t : Nat) (ac re ch : Int32) : Prop := gB ν R ac re ∧ ((ch = 0 ∧ t ≤ cn8 ac ∧ ∀ a, a < k → gD at_ ac re a) ∨ (ch = 1 ∧ t + 1 ≤ cn8 ac))
def gO (ν : Nat) (R : Nat → Nat → Prop) (at_ : Nat → Int32) (t : Nat) (ac re ch : Int32) : Prop := gB ν R ac re ∧ ((ch = 0 ∧ ∀ a, a < ν → gD at_ ac re a) ∨ (ch = 1 ∧ t ≤ cn8 ac))
def x_grd (ν : Nat) (R : Nat → Nat → Prop) (r : Int32) : Prop := Mk ν r ∧ pre ν R r ∧ ∀ F, Mk ν F → pre ν R F → sub r F
theorem gO_0 : gO ν R at_ 0 0 0 1 := by
  refine ⟨⟨Mk_0, fun i => ?_, fun F _ _ i hi => ?_⟩, Or.inr ⟨rfl, Nat.zero_le _⟩⟩
  · rw [b_0]
    refine ⟨fun h => (by cases h), fun h => ?_⟩
    obtain ⟨a, h1, -⟩ := h
    rw [b_0] at h1; cases h1
  · rw [b_0] at hi; cases hi
theorem gO_in (h : gO ν R at_ t ac re ch) (c : ¬ ch = 0) : gI ν R at_ 0 t ac re 0 := by
  rcases h.2 with q | q
  · exact absurd q.1 c
  · exact ⟨h.1, Or.inl ⟨rfl, q.2, lt_0⟩⟩
theorem gI_out (h : gI ν R at_ ν t ac re ch) : gO ν R at_ (t + 1) ac re ch := by
  rcases h.2 with q | q
  · exact ⟨h.1, Or.inl ⟨q.1, q.2.2⟩⟩
  · exact ⟨h.1, Or.inr q⟩
theorem gI_skip (h : gI ν R at_ k t ac re ch) (d : gD at_ ac re k) : gI ν R at_ (k + 1) t ac re ch := by
  rcases h.2 with q | q
  · exact ⟨h.1, Or.inl ⟨q.1, q.2.1, lt_s q.2.2 d⟩⟩
  · exact ⟨h.1, Or.inr q⟩
theorem gI_take (hv : ν ≤ 8) (hR : ∀ a b, R a b → a < ν ∧ b < ν) (hat : ∀ b, b < 8 → ∀ a, bt (at_ b) a = true ↔ R a b) (htg : ∀ a, a < 8 → ∀ b, bt (tg a) b = true ↔ R a b) (hk : k < ν) (h : gI ν R at_ k t ac re ch) (c1 : (at_ k &&& (re ^^^ (-1))) = 0) (c2 : bt ac k = false) : gI ν R at_ (k + 1) t (ac ||| b1 (nI k)) (re ||| tg k) 1 := by
  have hk32 : k < 32 := by omega
  obtain ⟨⟨h1, h2, h3⟩, h4⟩ := h
  have hs : sub ac (ac ||| b1 (nI k)) := fun i hi => (b_orb1 hk32).mpr (Or.inl hi)
  refine ⟨⟨Mk_b1 hk32 h1 hk, fun i => ?_, fun F hF hp i hi => ?_⟩, Or.inr ⟨rfl, ?_⟩⟩
  · rw [b_or, Bool.or_eq_true, h2, htg k (by omega)]
    constructor
    · rintro (⟨a, q1, q2⟩ | q)
      · exact ⟨a, hs a q1, q2⟩
      · exact ⟨k, (b_orb1 hk32).mpr (Or.inr rfl), q⟩
    · rintro ⟨a, q1, q2⟩
      rcases (b_orb1 hk32).mp q1 with q | q
      · exact Or.inl ⟨a, q, q2⟩
      · rw [q] at q2; exact Or.inr q2
  · rcases (b_orb1 hk32).mp hi with q | q
    · exact h3 F hF hp i q
    · rw [q]
      refine hp k ⟨hk, fun c hc => att_mono (h3 F hF hp) ((h2 c).mp (b_sub.mp c1 c ((hat k (by omega) c).mpr hc)))⟩
  · have := cn8_strict hs (by omega : k < 8) c2 ((b_orb1 hk32).mpr (Or.inr rfl))
    rcases h4 with q | q <;> omega
theorem gO_end (hv : ν ≤ 8) (hat : ∀ b, b < 8 → ∀ a, bt (at_ b) a = true ↔ R a b) (h : gO ν R at_ t ac re ch) (c : ch = 0 ∨ t = ν + 1) : x_grd ν R ac := by
  obtain ⟨⟨h1, h2, h3⟩, h4⟩ := h
  refine ⟨h1, fun b d => ?_, h3⟩
  rcases h4 with ⟨-, q⟩ | ⟨q1, q2⟩
  · exact q b d.1 (b_sub.mpr fun c hc => (h2 c).mpr (d.2 c ((hat b (by have := d.1; omega) c).mp hc)))
  · rcases c with c | c
    · rw [c] at q1; exact absurd q1 (by decide)
    · have := cn8_Mk hv h1; omega
end GD
/-! ===== the search ===== -/
def Wt : Nat → Nat
  | 0 => 0
  | k + 1 => 4 + 3 * Wt k
theorem Wt_mono : ∀ {b a : Nat}, a ≤ b → Wt a ≤ Wt b := by
  intro b
  induction b with
  | zero => intro a h; rw [show a = 0 by omega]; exact Nat.le_refl _
  | succ b ih =>
    intro a h
    cases a with
    | zero => exact Nat.zero_le _
    | succ a => have := ih (a := a) (by omega); rw [Wt, Wt]; omega
theorem Wt_8 : Wt 8 = 13120 := by decide
def wt (fa fr fu ft : Nat → Int32) (i : Nat) : Nat := 1 + (3 - (ft i).toNatClampNeg) * (1 + Wt (7 - cn8 (lab (fa i) (fr i) (fu i))))
def wS (fa fr fu ft : Nat → Int32) : Nat → Nat
  | 0 => 0
  | t + 1 => wS fa fr fu ft t + wt fa fr fu ft t
theorem wS_congr {fa fr fu ft fa' fr' fu' ft' : Nat → Int32} : ∀ t, (∀ i, i < t → fa' i = fa i ∧ fr' i = fr i ∧ fu' i = fu i ∧ ft' i = ft i) → wS fa' fr' fu' ft' t = wS fa fr fu ft t := by
  intro t
  induction t with
  | zero => intro _; rfl
  | succ t ih =>
    intro h
    obtain ⟨h1, h2, h3, h4⟩ := h t (by omega)
    rw [wS, wS, ih (fun i hi => h i (by omega)), wt, wt, h1, h2, h3, h4]
def sK (ν : Nat) (R : Nat → Nat → Prop) (kd rg : Nat → Int32) : Prop := ∀ j, j < 256 → (kd j = 0 ∨ (kd j = 1 ∧ com ν R (nI j) ∧ ∀ i, bt (rg j) i = true ↔ rgP R (nI j) i))
def sF (ν : Nat) (fa fr fu fg ft : Nat → Int32) (i : Nat) : Prop := ∃ g τ, fg i = nI g ∧ ft i = nI τ ∧ g < ν ∧ τ ≤ 3 ∧ Mk3 ν (fa i) (fr i) (fu i) ∧ bt (lab (fa i) (fr i) (fu i)) g = false ∧ i ≤ cn8 (lab (fa i) (fr i) (fu i))
def sCv (R : Nat → Nat → Prop) (fa fr fu fg ft : Nat → Int32) (E : Int32) (i : Nat) : Prop := fit R E (fa i) (fr i) (fu i) ∧ ∃ g τ τ', fg i = nI g ∧ ft i = nI τ ∧ g < 8 ∧ τ ≤ τ' ∧ τ' < 3 ∧ lbl R E (nI τ') g
def sI (ν : Nat) (R : Nat → Nat → Prop) (P : Int32 → Prop) (t : Nat) (fa fr fu fg ft kd rg : Nat → Int32) : Prop :=
  sK ν R kd rg ∧ (∀ i, i < t → sF ν fa fr fu fg ft i) ∧ ∀ e, e < 256 → com ν R (nI e) → kd e = 1 ∨ (∃ i, i < t ∧ sCv R fa fr fu fg ft (nI e) i) ∨ P (nI e)
section SE
variable {ν : Nat} {R : Nat → Nat → Prop} {P P' : Int32 → Prop} {t : Nat} {fa fr fu fg ft kd rg at_ : Nat → Int32} {ev ac re un : Int32}
theorem sI_mono (h : sI ν R P t fa fr fu fg ft kd rg) (hp : ∀ E, com ν R E → P E → P' E) : sI ν R P' t fa fr fu fg ft kd rg :=
  ⟨h.1, h.2.1, fun e he hc => (h.2.2 e he hc).elim Or.inl (fun q => Or.inr (q.elim Or.inl (fun z => Or.inr (hp _ hc z))))⟩
theorem sI_0 (h : ∀ j, j < 256 → kd j = 0) : sI ν R (fun E => fit R E 0 0 0) 0 fa fr fu fg ft kd rg := by
  refine ⟨fun j hj => Or.inl (h j hj), lt_0, fun e _ _ => Or.inr (Or.inr ⟨fun i hi => ?_, fun i hi => ?_, fun i hi => ?_⟩)⟩ <;> (rw [b_0] at hi; cases hi)
theorem lbl_any (E : Int32) (g : Nat) : ∃ τ', τ' < 3 ∧ lbl R E (nI τ') g := by
  by_cases h1 : bt E g = true
  · exact ⟨0, by omega, by unfold lbl; rw [if_pos nI_0]; exact h1⟩
  · by_cases h2 : att R E g
    · exact ⟨1, by omega, by unfold lbl; rw [if_neg (by decide), if_pos (by decide)]; exact h2⟩
    · exact ⟨2, by omega, by unfold lbl; rw [if_neg (by decide), if_neg (by decide)]; exact ⟨h1, h2⟩⟩
/-- a set that fits a labelling with no argument open is its accepted set -/
theorem fit_all (hv : ν ≤ 8) (hev : ev = nI (allN ν)) (ho : x_opn ev ac re un = 0) {E : Int32} (hE : com ν R E) (hf : fit R E ac re un) : E = ac := by
  refine sub_anti (fun i hi => ?_) hf.1
  have hl : bt (lab ac re un) i = true := by
    refine Classical.byContradiction fun q => ?_
    have z : bt (x_opn ev ac re un) i = true := opn_bit.mpr ⟨by rw [hev]; exact (b_all' hv).mpr (com_Mk hE i hi), bf q⟩
    rw [ho, b_0] at z; cases z
  rcases lab_bit.mp hl with q | q | q
  · exact q
  · rw [no_re hE hf hi] at q; cases q
  · rw [no_un hf (Or.inl hi)] at q; cases q
/-- branch: a finished labelling is noted, or a frame is opened -/
theorem sI_branch (hv : ν ≤ 8) (hR : ∀ a b, R a b → a < ν ∧ b < ν) (hat : ∀ b, b < 8 → ∀ a, bt (at_ b) a = true ↔ R a b) (hev : ev = nI (allN ν))
    (h : sI ν R (fun E => fit R E ac re un) t fa fr fu fg ft kd rg) (hM : Mk3 ν ac re un) (hs : ∀ a, a < ν → stb ev (at_ a) a ac re un) (ht : t ≤ cn8 (lab ac re un))
    {d r : Int32} {q : Nat} (hd : d + 1 = nI t) (hq : ac = nI q) (hq2 : q < 256) {fa' fr' fu' fg' ft' kd' rg' : Nat → Int32} (hB : x_brn ev d t q ac re un fa fr fu fg ft kd rg r (fa', fr', fu', fg', ft', kd', rg')) :
    ∃ t2, t2 ≤ 8 ∧ r + 1 = nI t2 ∧ sI ν R (fun _ => False) t2 fa' fr' fu' fg' ft' kd' rg' ∧ wS fa' fr' fu' ft' t2 ≤ wS fa fr fu ft t + Wt (8 - cn8 (lab ac re un)) := by
  have h8 := cn8_le (lab ac re un)
  rcases hB with ⟨ho, er, eu⟩ | ⟨ho, er, eu⟩
  · cases eu
    subst er
    refine ⟨t, by omega, hd, ⟨fun j hj => ?_, h.2.1, fun e he hc => ?_⟩, Nat.le_add_right _ _⟩
    · obtain ⟨hc, hre⟩ := stb_com hv hR hat hev hM ho hs
      by_cases e : j = q
      · subst e
        refine Or.inr ⟨pk_us, hq ▸ hc, fun i => ?_⟩
        rw [pk_us, b_or, Bool.or_eq_true, hre i, ← hq]
        exact Iff.rfl
      · rw [pk_un e, pk_un e]
        exact h.1 j hj
    · by_cases e' : e = q
      · subst e'; exact Or.inl pk_us
      · rw [pk_un e']
        rcases h.2.2 e he hc with z | z | z
        · exact Or.inl z
        · exact Or.inr (Or.inl z)
        · have := fit_all hv hev ho hc z
          rw [hq, nI_eq (by omega) (by omega)] at this
          exact absurd this e'
  · cases eu
    have m8 : Mk 8 (x_opn ev ac re un) := fun i hi => by
      have := (opn_bit.mp hi).1
      rw [hev, b_all' hv] at this
      omega
    have hb := lw_bit m8 ho
    obtain ⟨hb1, hb2⟩ := opn_bit.mp hb
    rw [hev, b_all' hv] at hb1
    rw [← hev] at hb1
    have h7 := cn8_lt (m8 _ hb) hb2
    refine ⟨t + 1, by omega, by rw [er]; exact nI_1 t, ⟨h.1, fun i hi => ?_, fun e he hc => ?_⟩, ?_⟩
    · by_cases e : i = t
      · subst e
        refine ⟨_, 0, pk_us, by rw [pk_us, nI_0], hb1, by omega, ?_⟩
        rw [pk_us, pk_us, pk_us]
        exact ⟨hM, hb2, ht⟩
      · have hi' : i < t := by omega
        unfold sF
        rw [pk_un e, pk_un e, pk_un e, pk_un e, pk_un e]
        exact h.2.1 i hi'
    · rcases h.2.2 e he hc with z | ⟨i, hi, z⟩ | z
      · exact Or.inl z
      · refine Or.inr (Or.inl ⟨i, by omega, ?_⟩)
        unfold sCv
        rw [pk_un (by omega), pk_un (by omega), pk_un (by omega), pk_un (by omega), pk_un (by omega)]
        exact z
      · obtain ⟨τ', h1, h2⟩ := lbl_any (R := R) (nI e) (x_lw (x_opn ev ac re un) 7)
        refine Or.inr (Or.inl ⟨t, by omega, ?_⟩)
        unfold sCv
        rw [pk_us, pk_us, pk_us, pk_us, pk_us]
        exact ⟨z, _, 0, τ', rfl, nI_0.symm, m8 _ hb, Nat.zero_le _, h1, h2⟩
    · rw [wS, wS_congr (fa' := upd fa t ac) (fr' := upd fr t re) (fu' := upd fu t un) (ft' := upd ft t 0) t (fun i hi => ⟨pk_un (by omega), pk_un (by omega), pk_un (by omega), pk_un (by omega)⟩)]
      refine Nat.add_le_add_left ?_ _
      rw [wt, pk_us, pk_us, pk_us, pk_us, show (0 : Int32).toNatClampNeg = 0 from by decide, show 8 - cn8 (lab ac re un) = (7 - cn8 (lab ac re un)) + 1 by omega, Wt]
      omega
/-- a frame with all three tried is left -/
theorem sI_pop (h : sI ν R (fun _ => False) (t + 1) fa fr fu fg ft kd rg) (h3 : ft t = nI 3) : sI ν R (fun _ => False) t fa fr fu fg ft kd rg ∧ wS fa fr fu ft t + 1 ≤ wS fa fr fu ft (t + 1) := by
  refine ⟨⟨h.1, fun i hi => h.2.1 i (by omega), fun e he hc => ?_⟩, by rw [wS, wt]; omega⟩
  rcases h.2.2 e he hc with z | ⟨i, hi, z⟩ | z
  · exact Or.inl z
  · by_cases e : i = t
    · subst e
      obtain ⟨-, g, τ, τ', -, h4, -, h5, h6, -⟩ := z
      rw [h3] at h4
      have hτ : τ < 3 := by omega
      rw [nI_eq (by omega) (by omega)] at h4
      omega
    · exact Or.inr (Or.inl ⟨i, by omega, z⟩)
  · exact absurd z id
/-- the next label of the top frame is tried -/
theorem sI_try (hv : ν ≤ 8) (h : sI ν R (fun _ => False) (t + 1) fa fr fu fg ft kd rg) {g τ : Nat} (hg : fg t = nI g) (hτ : ft t = nI τ) (h3 : τ < 3) (hgν : g < ν) {ac re un ch : Int32} (hL : (ac, re, un, ch) = x_lab (nI g) (nI τ) (fa t) (fr t) (fu t)) :
    sI ν R (fun E => fit R E ac re un) (t + 1) fa fr fu fg (upd ft t (nI (τ + 1))) kd rg ∧ Mk3 ν ac re un ∧ cn8 (lab (fa t) (fr t) (fu t)) + 1 ≤ cn8 (lab ac re un) ∧ t ≤ cn8 (lab (fa t) (fr t) (fu t)) ∧ cn8 (lab (fa t) (fr t) (fu t)) ≤ 7 ∧
    wS fa fr fu (upd ft t (nI (τ + 1))) (t + 1) + (1 + Wt (7 - cn8 (lab (fa t) (fr t) (fu t)))) ≤ wS fa fr fu ft (t + 1) := by
  obtain ⟨g', τ', e1, e2, q1, q2, q3, q4, q5⟩ := h.2.1 t (by omega)
  have eg : g' = g := by rw [hg, nI_eq (by omega) (by omega)] at e1; exact e1.symm
  subst eg
  obtain ⟨-, s2, s3⟩ := lab_str hv hgν q4 q3 hL
  have h7 := cn8_lt (by omega : g' < 8) q4
  refine ⟨⟨h.1, fun i hi => ?_, fun e he hc => ?_⟩, s2, s3, q5, h7, ?_⟩
  · by_cases e : i = t
    · subst e
      exact ⟨g', τ + 1, e1, pk_us, q1, by omega, q3, q4, q5⟩
    · unfold sF
      rw [pk_un e]
      exact h.2.1 i hi
  · rcases h.2.2 e he hc with z | ⟨i, hi, z⟩ | z
    · exact Or.inl z
    · by_cases e' : i = t
      · subst e'
        obtain ⟨z1, g2, τ2, τ3, z2, z3, z4, z5, z6, z7⟩ := z
        have eg2 : g' = g2 := by rw [hg, nI_eq (by omega) (by omega)] at z2; exact z2
        subst eg2
        have eτ2 : τ = τ2 := by rw [hτ, nI_eq (by omega) (by omega)] at z3; exact z3
        subst eτ2
        by_cases e3 : τ3 = τ
        · subst e3
          exact Or.inr (Or.inr (lab_fit (by omega) z1 z7 hL))
        · exact Or.inr (Or.inl ⟨i, hi, z1, g', τ + 1, τ3, hg, pk_us, z4, by omega, z6, z7⟩)
      · refine Or.inr (Or.inl ⟨i, hi, ?_⟩)
        unfold sCv
        rw [pk_un e']
        exact z
    · exact absurd z id
  · rw [wS, wS, wS_congr (fa' := fa) (fr' := fr) (fu' := fu) (ft' := upd ft t (nI (τ + 1))) t (fun i hi => ⟨rfl, rfl, rfl, pk_un (by omega)⟩), wt, wt, pk_us, hτ, nI_clamp (by omega), nI_clamp (by omega)]
    generalize Wt (7 - cn8 (lab (fa t) (fr t) (fu t))) = w
    rcases (show τ = 0 ∨ τ = 1 ∨ τ = 2 by omega) with rfl | rfl | rfl <;> simp <;> omega
theorem sI_t8 (hv : ν ≤ 8) (h : sI ν R P t fa fr fu fg ft kd rg) : t ≤ 8 := by
  cases t with
  | zero => omega
  | succ t =>
    obtain ⟨g, τ, -, -, q1, -, -, q4, q5⟩ := h.2.1 t (by omega)
    have := cn8_lt (by omega : g < 8) q4
    omega
end SE
/-! ===== what compare leaves ===== -/
def KD (ν : Nat) (R : Nat → Nat → Prop) (kd : Nat → Int32) : Prop := ∀ j κ, j < 256 → κ < 4 → (bt (kd j) κ = true ↔ (j < allN ν + 1 ∧ Sem ν R κ (nI j)))
theorem cF_bits (P Q R : Prop) : bt ((c_or (c_or (c_or 1 P 2) Q 4) R 8).toInt8.toInt32) 0 = true ∧ (bt ((c_or (c_or (c_or 1 P 2) Q 4) R 8).toInt8.toInt32) 1 = true ↔ P) ∧ (bt ((c_or (c_or (c_or 1 P 2) Q 4) R 8).toInt8.toInt32) 2 = true ↔ Q) ∧ (bt ((c_or (c_or (c_or 1 P 2) Q 4) R 8).toInt8.toInt32) 3 = true ↔ R) := by
  have T : ∀ {X : Prop}, X → ∀ {b : Bool}, b = true → (b = true ↔ X) := fun hx _ hb => ⟨fun _ => hx, fun _ => hb⟩
  have N : ∀ {X : Prop}, ¬ X → ∀ {b : Bool}, b = false → (b = true ↔ X) := fun hx _ hb => ⟨fun q => (by rw [hb] at q; cases q), fun q => absurd q hx⟩
  rcases Classical.em P with p | p <;> rcases Classical.em Q with q | q <;> rcases Classical.em R with r | r
  · rw [c_or_t p, c_or_t q, c_or_t r]; exact ⟨by decide +kernel, T p (by decide +kernel), T q (by decide +kernel), T r (by decide +kernel)⟩
  · rw [c_or_t p, c_or_t q, c_or_f r]; exact ⟨by decide +kernel, T p (by decide +kernel), T q (by decide +kernel), N r (by decide +kernel)⟩
  · rw [c_or_t p, c_or_f q, c_or_t r]; exact ⟨by decide +kernel, T p (by decide +kernel), N q (by decide +kernel), T r (by decide +kernel)⟩
  · rw [c_or_t p, c_or_f q, c_or_f r]; exact ⟨by decide +kernel, T p (by decide +kernel), N q (by decide +kernel), N r (by decide +kernel)⟩
  · rw [c_or_f p, c_or_t q, c_or_t r]; exact ⟨by decide +kernel, N p (by decide +kernel), T q (by decide +kernel), T r (by decide +kernel)⟩
  · rw [c_or_f p, c_or_t q, c_or_f r]; exact ⟨by decide +kernel, N p (by decide +kernel), T q (by decide +kernel), N r (by decide +kernel)⟩
  · rw [c_or_f p, c_or_f q, c_or_t r]; exact ⟨by decide +kernel, N p (by decide +kernel), N q (by decide +kernel), T r (by decide +kernel)⟩
  · rw [c_or_f p, c_or_f q, c_or_f r]; exact ⟨by decide +kernel, N p (by decide +kernel), N q (by decide +kernel), N r (by decide +kernel)⟩
section FI
variable {ν : Nat} {R : Nat → Nat → Prop} {kd rg kd' : Nat → Int32} {ev : Int32}
/-- each kind, said of a complete set in the labeller's words -/
theorem Sem_com (hv : ν ≤ 8) (hR : ∀ a b, R a b → a < ν ∧ b < ν) {κ : Nat} (hκ : κ < 4) {E : Int32} : Sem ν R κ E ↔ com ν R E ∧ (if κ = 2 then ∀ i, rgP R E i ↔ i < ν else if κ = 0 then True else if κ = 1 then ∀ F, com ν R F → ¬ (¬ F = E ∧ sub E F) else ∀ F, com ν R F → ¬ wider R E F) := by
  unfold Sem
  by_cases e2 : κ = 2
  · rw [if_pos e2, if_pos e2]; exact (stab_iff hR).symm
  · rw [if_neg e2, if_neg e2]
    by_cases e0 : κ = 0
    · rw [if_pos e0, if_pos e0]; exact ⟨fun h => ⟨h, trivial⟩, fun h => h.1⟩
    · rw [if_neg e0, if_neg e0]
      by_cases e1 : κ = 1
      · rw [if_pos e1, if_pos e1]; exact (pref_iff hv).symm
      · rw [if_neg e1, if_neg e1]; exact (semi_iff hv).symm
theorem kd_fin (hv : ν ≤ 8) (hR : ∀ a b, R a b → a < ν ∧ b < ν) (hev : ev = nI (allN ν)) (hk : sK ν R kd rg) (hall : ∀ e, e < 256 → com ν R (nI e) → kd e = 1) (hc : ∀ o, o < 256 → kd' o = cIf (kd o = 0) 0 (c_F ev kd rg o)) : KD ν R kd' := by
  intro j κ hj hκ
  rw [hc j hj, Sem_com hv hR hκ]
  rcases hk j hj with z | ⟨z, hcom, hrg⟩
  · rw [cIf_t z, b_0]
    refine ⟨fun h => (by cases h), fun h => ?_⟩
    rw [hall j hj h.2.1] at z
    exact absurd z (by decide)
  · have nz : ∀ o, o < 256 → (¬ kd o = 0 ↔ com ν R (nI o)) := by
      intro o ho
      constructor
      · intro h
        exact ((hk o ho).resolve_left h).2.1
      · intro h q
        rw [hall o ho h] at q
        exact absurd q (by decide)
    have hN : j < allN ν + 1 := (Mk_le hv hj).mp (com_Mk hcom)
    rw [cIf_f (by rw [z]; decide)]
    obtain ⟨b0, b1_, b2, b3⟩ := cF_bits (∀ o, o < 256 → ¬ c_hl kd j o) (rg j = ev) (∀ o, o < 256 → ¬ c_hw kd rg j o)
    unfold c_F
    rw [z]
    rcases (show κ = 0 ∨ κ = 1 ∨ κ = 2 ∨ κ = 3 by omega) with rfl | rfl | rfl | rfl
    · rw [b0]
      exact ⟨fun _ => ⟨hN, hcom, trivial⟩, fun _ => rfl⟩
    · rw [b1_]
      constructor
      · intro h
        refine ⟨hN, hcom, fun F hF q => ?_⟩
        obtain ⟨o, ho, rfl⟩ := Mk_num hv (com_Mk hF)
        exact h o ho ⟨(nz o ho).mpr hF, q.1, b_sub.mpr q.2⟩
      · intro h o ho q
        exact h.2.2 (nI o) ((nz o ho).mp q.1) ⟨q.2.1, b_sub.mp q.2.2⟩
    · rw [b2]
      constructor
      · intro h
        refine ⟨hN, hcom, fun i => ?_⟩
        rw [← hrg i, h, hev, b_all' hv]
      · intro h
        refine sub_anti (fun i hi => ?_) (fun i hi => ?_)
        · rw [hev]; exact (b_all' hv).mpr ((h.2.2 i).mp ((hrg i).mp hi))
        · rw [hev] at hi; exact (hrg i).mpr ((h.2.2 i).mpr ((b_all' hv).mp hi))
    · rw [b3]
      have hrg' : ∀ o, o < 256 → ¬ kd o = 0 → ∀ i, bt (rg o) i = true ↔ rgP R (nI o) i := fun o ho h => ((hk o ho).resolve_left h).2.2
      constructor
      · intro h
        refine ⟨hN, hcom, fun F hF q => ?_⟩
        obtain ⟨o, ho, rfl⟩ := Mk_num hv (com_Mk hF)
        have ho' := (nz o ho).mpr hF
        have w := (wider_iff hrg (hrg' o ho ho')).mpr q
        exact h o ho ⟨ho', w.1, w.2⟩
      · intro h o ho q
        exact h.2.2 (nI o) ((nz o ho).mp q.1) ((wider_iff hrg (hrg' o ho q.1)).mp ⟨q.2.1, q.2.2⟩)
end FI
end
section
/-! words and rows for the labeller's other walks -/
def Rl (tg : Nat → Int32) (a b : Nat) : Prop := a < 8 ∧ bt (tg a) b = true
/-- the framework: ν arguments, attacks kept both ways -/
def FW (ν : Nat) (at_ tg : Nat → Int32) : Prop := ν ≤ 8 ∧ (∀ a b, Rl tg a b → a < ν ∧ b < ν) ∧ ∀ b, b < 8 → ∀ a, bt (at_ b) a = true ↔ Rl tg a b
theorem Rl_tg {tg : Nat → Int32} : ∀ a, a < 8 → ∀ b, bt (tg a) b = true ↔ Rl tg a b := fun _ ha _ => ⟨fun h => ⟨ha, h⟩, fun h => h.2⟩
theorem kgtM {k N : Nat} {M : Int32} (hM : M = nI N) (hN : N < 2 ^ 31) (hk : k ≤ N + 1) (h : M < nI k) : k = N + 1 := kgt hN hk (hM ▸ h)
theorem kleM {k N : Nat} {M : Int32} (hM : M = nI N) (hk : k < 2 ^ 31) (h : ¬ M < nI k) : k ≤ N := kle hk (hM ▸ h)
theorem sub1 {d : Int32} {t : Nat} (h : d + 1 = nI (t + 1)) : d = nI t := by
  rw [nI_succ] at h
  have := congrArg (fun x : Int32 => x - 1) h
  simpa using this
theorem dneg {d : Int32} {t : Nat} (h : d + 1 = nI t) (ht : t ≤ 8) (c : d < 0) : t = 0 := by
  cases t with
  | zero => rfl
  | succ t => rw [sub1 h] at c; exact absurd c (nI_pos (by omega))
theorem dpos {d : Int32} {t : Nat} (h : d + 1 = nI t) (c : ¬ d < 0) : ∃ t', t = t' + 1 ∧ d = nI t' := by
  cases t with
  | zero =>
    have e : d = -1 := by
      have := congrArg (fun x : Int32 => x - 1) h
      have h2 : d = nI 0 - 1 := by simpa using this
      rw [h2]; decide
    rw [e] at c
    exact absurd (by decide) c
  | succ t => exact ⟨t, rfl, sub1 h⟩
theorem popd {d : Int32} {t : Nat} (h : d = nI t) : (d + (-1)) + 1 = nI t := by
  rw [h, Int32.add_assoc, show ((-1 : Int32) + 1) = 0 from by decide, Int32.add_zero]
theorem byteT {τ : Nat} (h : τ < 3) : (nI τ + 1).toInt8.toInt32 = nI (τ + 1) := by rw [nI_1]; exact byte8 (τ + 1) (by omega)
theorem tau3 {τ : Nat} (h : τ ≤ 3) (c : ¬ nI τ = 3) : τ < 3 := by
  rcases (show τ = 3 ∨ τ < 3 by omega) with rfl | q
  · exact absurd (by decide) c
  · exact q
/-- kinds, read back -/
def xP (ν : Nat) (R : Nat → Nat → Prop) (kind : Int32) : Nat → Prop := fun j => j < allN ν + 1 ∧ Sem ν R kind.toNatClampNeg (nI j)
theorem kindP_of {kind : Int32} (h : kindP kind) : ∃ κ, κ < 4 ∧ kind = nI κ := by
  obtain ⟨κ, h1, h2⟩ := nI_of h.1
  refine ⟨κ, ?_, h2⟩
  have := h.2
  rw [h2] at this
  have := kle (N := 3) h1 (show ¬ nI 3 < nI κ from this)
  omega
theorem kindP_in {kind : Int32} (h1 : ¬ kind < 0) (h2 : kind ≤ 3) : kindP kind := ⟨h1, Int32.not_lt.mpr h2⟩
theorem kindP_no {kind : Int32} (h : ¬ kind ≤ 3) : ¬ kindP kind := fun q => h (Int32.not_lt.mp q.2)
theorem kd_v {ν : Nat} {R : Nat → Nat → Prop} {kd : Nat → Int32} {kind : Int32} {k : Nat} (h : KD ν R kd) (hk : kindP kind) (h2 : k < 256) : ((kd k >>> (kind &&& 31)) &&& 1) = bI (xP ν R kind k) := by
  obtain ⟨κ, h1, rfl⟩ := kindP_of hk
  have q := h k κ h2 h1
  rw [b_bit (by omega)]
  unfold xP
  rw [nI_clamp (by omega)]
  cases e : bt (kd k) κ with
  | true => exact (bI_t (q.mp e)).symm
  | false => exact (bI_f (fun z => by rw [q.mpr z] at e; cases e)).symm
theorem cnt_add {P : Nat → Prop} {k : Nat} {x : Int32} (h : x = nI (g_cnt P k)) : x + bI (P k) = nI (g_cnt P (k + 1)) := by
  rcases Classical.em (P k) with q | q
  · rw [bI_t q, g_cnt, cIf_t q, h]; exact nI_1 _
  · rw [bI_f q, g_cnt, cIf_f q, h]; exact Int32.add_zero _
theorem ext_0 {a b : Int32} (h : a - b = 0) : b = a := by
  have := congrArg (fun x : Int32 => x + b) h
  have h2 : a = 0 + b := by simpa using this
  rw [h2, Int32.zero_add]
theorem ext_n {a b : Int32} (h : ¬ a - b = 0) : ¬ b = a := fun e => h (by rw [e]; exact Int32.sub_self a)
theorem ext_s {q : Int32} {c : Nat} : (q - nI c) + (-1) = q - nI (c + 1) := by
  rw [nI_succ]
  generalize nI c = x
  grind
/-- what the answers' methods leave: kinds are right where they are called right -/
def x_ans (ν : Nat) (R : Nat → Nat → Prop) (kind r : Int32) (Z : Int32 → Prop) (se : Int32) (kd : Nat → Int32) : Prop := (¬ se = 0 → KD ν R kd) ∧ ((¬ kindP kind ∧ r = -1) ∨ (kindP kind ∧ Z r))
end
section
abbrev rm_X1_propagate : Room := { frames := 2, cells := 0, slots := 0, locals := 48 }
set_option maxHeartbeats 4000000 in
set_option maxRecDepth 100000 in
theorem metX1_propagate (l : Launch) (dC : Nat → ClassId) (dI : Nat → Nat → Nat) (cI cB : ClassId) (ad : Nat → Nat) (sz : Nat) (n : Int32) (ev : Int32) (at_ : Nat → Int32) (tg : Nat → Int32) (ac : Int32) (re : Int32) (un : Int32) (ch : Int32) (fa : Nat → Int32) (fr : Nat → Int32) (fu : Nat → Int32) (fg : Nat → Int32) (ft : Nat → Int32) (se : Int32) (kd : Nat → Int32) (rg : Nat → Int32) (ν : Nat) (hn : n = nI ν) (hev : ev = nI (allN ν)) (hF : FW ν at_ tg) (hM : Mk3 ν ac re un) : Met l yX1_propagate (ws_ yX1_propagate cX1_propagate 3 (some .boolean)) rm_X1_propagate (gP (dC, dI) (tyL cI cB) (wL cI cB ad n ev at_ tg ac re un ch fa fr fu fg ft se kd rg) sz [.ref (ad 0)]) (gQi (dC, dI) (fun (r : Int32) (u : Lb) => x_prp ν (Rl tg) ev at_ ac re un r u) (wL cI cB ad n ev at_ tg ac re un ch fa fr fu fg ft se kd rg) (fun u => wL cI cB ad n ev at_ tg u.1 u.2.1 u.2.2.1 u.2.2.2 fa fr fu fg ft se kd rg) sz) 0 0 (va_A (wL cI cB ad n ev at_ tg ac re un ch fa fr fu fg ft se kd rg) sz) := by
  refine gstart (own := RX1) (by decide) rfl (Nat.le_of_ble_eq_true rfl) ?_
  intro p e s m below meth c hx hb hr hlocks hml hown hts hsz hP hK hD hA hnm ls hl
  have hS : va_S (va_A (wL cI cB ad n ev at_ tg ac re un ch fa fr fu fg ft se kd rg) sz) s.heap s.heap [] := va_S.rf
  have hl : lv_has ls 3 [(0, .ref (ad 0))] := hl
  obtain ⟨hv, hR, hat⟩ := id hF
  refine lv_aload_n hx hb dX1_propagate_0 rfl (lv_at hl 0 rfl) ?_
  refine lv_iconst (v := 1) hx hb dX1_propagate_1 (by decide) ?_
  refine pX1_ch hx hb hts hown hK hP hD hS rfl rfl dX1_propagate_2 (fun H locs hP hD hS => ?_)
  refine lv_iconst (v := 0) hx hb dX1_propagate_5 (by decide) ?_
  refine lv_istore_n (lv' := [(1, .int 0), (0, .ref (ad 0))]) hx hb dX1_propagate_6 rfl hl (by decide) rfl (fun ls hl => ?_)
  have loop7 : ∀ (fl : Nat) (t : Nat) (acO : Int32) (reO : Int32) (unO : Int32) (chO : Int32), t ≤ 10 → 10 < t + fl → pO ν (Rl tg) ev at_ ac re un t acO reO unO chO → ∀ (H : Heap) (locs : List Loc), va_P (dC, dI) cl2 (wL cI cB ad n ev at_ tg acO reO unO chO fa fr fu fg ft se kd rg) H → va_D (va_A (wL cI cB ad n ev at_ tg ac re un ch fa fr fu fg ft se kd rg) sz) (wL cI cB ad n ev at_ tg acO reO unO chO fa fr fu fg ft se kd rg) → va_S (va_A (wL cI cB ad n ev at_ tg ac re un ch fa fr fu fg ft se kd rg) sz) s.heap H locs → ∀ (ls : Array Slot), lv_has ls 3 [(0, .ref (ad 0)), (1, .int (nI t))] → W p l e rm_X1_propagate s m ([.ref (ad 0)] : List Value).toArray below meth c H locs 0 0 (MQ below (gQi (dC, dI) (fun (r : Int32) (u : Lb) => x_prp ν (Rl tg) ev at_ ac re un r u) (wL cI cB ad n ev at_ tg ac re un ch fa fr fu fg ft se kd rg) (fun u => wL cI cB ad n ev at_ tg u.1 u.2.1 u.2.2.1 u.2.2.2 fa fr fu fg ft se kd rg) sz) ([.ref (ad 0)] : List Value).toArray s 0 0 (va_A (wL cI cB ad n ev at_ tg ac re un ch fa fr fu fg ft se kd rg) sz)) (F0 m 7 ls []) := by
    intro fl
    induction fl with
    | zero =>
      intro t acO reO unO chO ht hf hO
      exact absurd hf (by omega)
    | succ fl ih7 =>
      intro t acO reO unO chO ht hf hO H locs hP hD hS ls hl
      refine lv_iload_n hx hb dX1_propagate_7 rfl (lv_at hl 1 rfl) ?_
      refine lv_bipush (v := 10) hx hb dX1_propagate_8 (by decide) ?_
      refine lv_icmp_ge (tgt := 65) hx hb dX1_propagate_10 (by decide) (fun c1 => ?_) (fun c1 => ?_)
      · refine lv_iconst (v := 1) hx hb dX1_propagate_65 (by decide) ?_
        exact gretz hx hb hr hlocks rfl (acO, reO, unO, chO) (by exact pO_end hO (Or.inr (kge (by decide : (10 : Int32) = nI 10) (by decide) ht c1))) hP hD hS dX1_propagate_66
      · have htlt : t < 10 := klt (by decide : (10 : Int32) = nI 10) (by omega) c1
        refine lv_aload_n hx hb dX1_propagate_13 rfl (lv_at hl 0 rfl) ?_
        refine gX1_ch hx hb hts hown hK hP dX1_propagate_14 ?_
        refine lv_if_eq (tgt := 65) hx hb dX1_propagate_17 (by decide) (fun c2 => ?_) (fun c2 => ?_)
        · refine lv_iconst (v := 1) hx hb dX1_propagate_65 (by decide) ?_
          exact gretz hx hb hr hlocks rfl (acO, reO, unO, chO) (by exact pO_end hO (Or.inl c2)) hP hD hS dX1_propagate_66
        · refine lv_aload_n hx hb dX1_propagate_20 rfl (lv_at hl 0 rfl) ?_
          refine lv_iconst (v := 0) hx hb dX1_propagate_21 (by decide) ?_
          refine pX1_ch hx hb hts hown hK hP hD hS rfl rfl dX1_propagate_22 (fun H locs hP hD hS => ?_)
          refine lv_iconst (v := 0) hx hb dX1_propagate_25 (by decide) ?_
          refine lv_istore_n (lv' := [(2, .int 0), (0, .ref (ad 0)), (1, .int (nI t))]) hx hb dX1_propagate_26 rfl hl (by decide) rfl (fun ls hl => ?_)
          have loop27 : ∀ (fl : Nat) (k : Nat) (acI : Int32) (reI : Int32) (unI : Int32) (chI : Int32), k ≤ ν → ν < k + fl → pI ν (Rl tg) ev at_ ac re un k t acI reI unI chI → ∀ (H : Heap) (locs : List Loc), va_P (dC, dI) cl2 (wL cI cB ad n ev at_ tg acI reI unI chI fa fr fu fg ft se kd rg) H → va_D (va_A (wL cI cB ad n ev at_ tg ac re un ch fa fr fu fg ft se kd rg) sz) (wL cI cB ad n ev at_ tg acI reI unI chI fa fr fu fg ft se kd rg) → va_S (va_A (wL cI cB ad n ev at_ tg ac re un ch fa fr fu fg ft se kd rg) sz) s.heap H locs → ∀ (ls : Array Slot), lv_has ls 3 [(0, .ref (ad 0)), (1, .int (nI t)), (2, .int (nI k))] → W p l e rm_X1_propagate s m ([.ref (ad 0)] : List Value).toArray below meth c H locs 0 0 (MQ below (gQi (dC, dI) (fun (r : Int32) (u : Lb) => x_prp ν (Rl tg) ev at_ ac re un r u) (wL cI cB ad n ev at_ tg ac re un ch fa fr fu fg ft se kd rg) (fun u => wL cI cB ad n ev at_ tg u.1 u.2.1 u.2.2.1 u.2.2.2 fa fr fu fg ft se kd rg) sz) ([.ref (ad 0)] : List Value).toArray s 0 0 (va_A (wL cI cB ad n ev at_ tg ac re un ch fa fr fu fg ft se kd rg) sz)) (F0 m 27 ls []) := by
            intro fl
            induction fl with
            | zero =>
              intro k acI reI unI chI hk hg hI
              exact absurd hg (by omega)
            | succ fl ih27 =>
              intro k acI reI unI chI hk hg hI H locs hP hD hS ls hl
              refine lv_iload_n hx hb dX1_propagate_27 rfl (lv_at hl 2 rfl) ?_
              refine lv_aload_n hx hb dX1_propagate_28 rfl (lv_at hl 0 rfl) ?_
              refine gX1_n hx hb hts hown hK hP dX1_propagate_29 ?_
              refine lv_icmp_ge (tgt := 59) hx hb dX1_propagate_32 (by decide) (fun c3 => ?_) (fun c3 => ?_)
              · refine lv_iinc (v := (nI (t + 1))) (lv' := [(1, .int (nI (t + 1))), (0, .ref (ad 0)), (2, .int (nI k))]) hx hb dX1_propagate_59 hl (k := 1) rfl (nI_1 t) (by decide) rfl (fun ls hl => ?_)
                refine lv_goto (tgt := 7) hx hb dX1_propagate_62 (by decide) ?_
                exact ih7 (t + 1) acI reI unI chI (by omega) (by omega) (pI_out (kge hn (by omega) hk c3 ▸ hI)) H locs hP hD hS ls (lv_sub hl [1, 0] rfl)
              · have hltk : k < ν := klt hn (by omega) c3
                refine lv_aload_n hx hb dX1_propagate_35 rfl (lv_at hl 0 rfl) ?_
                refine lv_iload_n hx hb dX1_propagate_36 rfl (lv_at hl 2 rfl) ?_
                refine gcalli (As := [.int (nI k)]) (rest := []) ⟨hx, hb, hml, hown, hts⟩ (metX1_conclude l dC dI cI cB ad H.size n ev at_ tg acI reI unI chI fa fr fu fg ft se kd rg k (by omega)) (cw_X1_conclude hts ⟨Nat.le_of_ble_eq_true rfl, Nat.le_of_ble_eq_true rfl⟩) hK hP hD hS hA (ci := 0) (q0 := 0) rfl rfl hl.1 rfl (Nat.le_of_ble_eq_true rfl) dX1_propagate_37 ⟨Nat.le_of_ble_eq_true rfl, Nat.le_of_ble_eq_true rfl⟩ (fun rC u H locs hC hP hD hS => ?_)
                obtain ⟨acC, reC, unC, chC⟩ := u
                have hP : va_P (dC, dI) cl2 (wL cI cB ad n ev at_ tg acC reC unC chC fa fr fu fg ft se kd rg) H := hP
                have hD : va_D (va_A (wL cI cB ad n ev at_ tg ac re un ch fa fr fu fg ft se kd rg) sz) (wL cI cB ad n ev at_ tg acC reC unC chC fa fr fu fg ft se kd rg) := hD
                refine lv_if_eq (tgt := 51) hx hb dX1_propagate_40 (by decide) (fun c5 => ?_) (fun c5 => ?_)
                · refine lv_iconst (v := 0) hx hb dX1_propagate_51 (by decide) ?_
                  exact gretz hx hb hr hlocks rfl (acC, reC, unC, chC) (by exact Or.inl ⟨rfl, (pI_con hv hR hat hev hltk hI hC).1 c5⟩) hP hD hS dX1_propagate_52
                · have hJ := (pI_con hv hR hat hev hltk hI hC).2 c5
                  refine lv_aload_n hx hb dX1_propagate_43 rfl (lv_at hl 0 rfl) ?_
                  refine lv_iload_n hx hb dX1_propagate_44 rfl (lv_at hl 2 rfl) ?_
                  refine gcalli (As := [.int (nI k)]) (rest := []) ⟨hx, hb, hml, hown, hts⟩ (metX1_support l dC dI cI cB ad H.size n ev at_ tg acC reC unC chC fa fr fu fg ft se kd rg k (by omega)) (cw_X1_support hts ⟨Nat.le_of_ble_eq_true rfl, Nat.le_of_ble_eq_true rfl⟩) hK hP hD hS hA (ci := 0) (q0 := 0) rfl rfl hl.1 rfl (Nat.le_of_ble_eq_true rfl) dX1_propagate_45 ⟨Nat.le_of_ble_eq_true rfl, Nat.le_of_ble_eq_true rfl⟩ (fun rU u H locs hU hP hD hS => ?_)
                  obtain ⟨acU, reU, unU, chU⟩ := u
                  have hP : va_P (dC, dI) cl2 (wL cI cB ad n ev at_ tg acU reU unU chU fa fr fu fg ft se kd rg) H := hP
                  have hD : va_D (va_A (wL cI cB ad n ev at_ tg ac re un ch fa fr fu fg ft se kd rg) sz) (wL cI cB ad n ev at_ tg acU reU unU chU fa fr fu fg ft se kd rg) := hD
                  refine lv_if_ne (tgt := 53) hx hb dX1_propagate_48 (by decide) (fun c7 => ?_) (fun c7 => ?_)
                  · refine lv_iinc (v := (nI (k + 1))) (lv' := [(2, .int (nI (k + 1))), (0, .ref (ad 0)), (1, .int (nI t))]) hx hb dX1_propagate_53 hl (k := 2) rfl (nI_1 k) (by decide) rfl (fun ls hl => ?_)
                    refine lv_goto (tgt := 27) hx hb dX1_propagate_56 (by decide) ?_
                    exact ih27 (k + 1) acU reU unU chU (by omega) (by omega) ((pJ_sup hv hR hat hltk hJ hU).2 c7) H locs hP hD hS ls (lv_sub hl [1, 2, 0] rfl)
                  · refine lv_iconst (v := 0) hx hb dX1_propagate_51 (by decide) ?_
                    exact gretz hx hb hr hlocks rfl (acU, reU, unU, chU) (by exact Or.inl ⟨rfl, (pJ_sup hv hR hat hltk hJ hU).1 c7⟩) hP hD hS dX1_propagate_52
          exact loop27 9 0 acO reO unO 0 (by omega) (by omega) (pO_in hO c2) H locs hP hD hS ls (lv_sub hl [1, 2, 0] rfl)
  exact loop7 11 0 ac re un 1 (by omega) (by omega) (pO_0 hM) H locs hP hD hS ls (lv_sub hl [1, 0] rfl)

abbrev rm_X1_grounded : Room := { frames := 0, cells := 0, slots := 0, locals := 0 }
set_option maxHeartbeats 4000000 in
set_option maxRecDepth 100000 in
theorem metX1_grounded (l : Launch) (dC : Nat → ClassId) (dI : Nat → Nat → Nat) (cI cB : ClassId) (ad : Nat → Nat) (sz : Nat) (n : Int32) (ev : Int32) (at_ : Nat → Int32) (tg : Nat → Int32) (ac : Int32) (re : Int32) (un : Int32) (ch : Int32) (fa : Nat → Int32) (fr : Nat → Int32) (fu : Nat → Int32) (fg : Nat → Int32) (ft : Nat → Int32) (se : Int32) (kd : Nat → Int32) (rg : Nat → Int32) (ν : Nat) (hn : n = nI ν) (hF : FW ν at_ tg) : Met l yX1_grounded (ws_ yX1_grounded cX1_grounded 3 (some .int)) rm_X1_grounded (gP (dC, dI) (tyL cI cB) (wL cI cB ad n ev at_ tg ac re un ch fa fr fu fg ft se kd rg) sz [.ref (ad 0)]) (gQi (dC, dI) (fun (r : Int32) (u : Int32 × Int32 × Int32) => x_grd ν (Rl tg) r) (wL cI cB ad n ev at_ tg ac re un ch fa fr fu fg ft se kd rg) (fun u => wL cI cB ad n ev at_ tg u.1 u.2.1 un u.2.2 fa fr fu fg ft se kd rg) sz) 0 0 (va_A (wL cI cB ad n ev at_ tg ac re un ch fa fr fu fg ft se kd rg) sz) := by
  refine gstart (own := RX1) (by decide) rfl (Nat.le_of_ble_eq_true rfl) ?_
  intro p e s m below meth c hx hb hr hlocks hml hown hts hsz hP hK hD hA hnm ls hl
  have hS : va_S (va_A (wL cI cB ad n ev at_ tg ac re un ch fa fr fu fg ft se kd rg) sz) s.heap s.heap [] := va_S.rf
  have hl : lv_has ls 3 [(0, .ref (ad 0))] := hl
  obtain ⟨hv, hR, hat⟩ := id hF
  refine lv_aload_n hx hb dX1_grounded_0 rfl (lv_at hl 0 rfl) ?_
  refine lv_iconst (v := 0) hx hb dX1_grounded_1 (by decide) ?_
  refine pX1_ac hx hb hts hown hK hP hD hS dX1_grounded_2 (fun H locs hP hD hS => ?_)
  refine lv_aload_n hx hb dX1_grounded_5 rfl (lv_at hl 0 rfl) ?_
  refine lv_iconst (v := 0) hx hb dX1_grounded_6 (by decide) ?_
  refine pX1_re hx hb hts hown hK hP hD hS dX1_grounded_7 (fun H locs hP hD hS => ?_)
  refine lv_aload_n hx hb dX1_grounded_10 rfl (lv_at hl 0 rfl) ?_
  refine lv_iconst (v := 1) hx hb dX1_grounded_11 (by decide) ?_
  refine pX1_ch hx hb hts hown hK hP hD hS rfl rfl dX1_grounded_12 (fun H locs hP hD hS => ?_)
  refine lv_iconst (v := 0) hx hb dX1_grounded_15 (by decide) ?_
  refine lv_istore_n (lv' := [(1, .int 0), (0, .ref (ad 0))]) hx hb dX1_grounded_16 rfl hl (by decide) rfl (fun ls hl => ?_)
  have loop17 : ∀ (fl : Nat) (t : Nat) (acO : Int32) (reO : Int32) (chO : Int32), t ≤ ν + 1 → ν + 1 < t + fl → gO ν (Rl tg) at_ t acO reO chO → ∀ (H : Heap) (locs : List Loc), va_P (dC, dI) cl2 (wL cI cB ad n ev at_ tg acO reO un chO fa fr fu fg ft se kd rg) H → va_D (va_A (wL cI cB ad n ev at_ tg ac re un ch fa fr fu fg ft se kd rg) sz) (wL cI cB ad n ev at_ tg acO reO un chO fa fr fu fg ft se kd rg) → va_S (va_A (wL cI cB ad n ev at_ tg ac re un ch fa fr fu fg ft se kd rg) sz) s.heap H locs → ∀ (ls : Array Slot), lv_has ls 3 [(0, .ref (ad 0)), (1, .int (nI t))] → W p l e rm_X1_grounded s m ([.ref (ad 0)] : List Value).toArray below meth c H locs 0 0 (MQ below (gQi (dC, dI) (fun (r : Int32) (u : Int32 × Int32 × Int32) => x_grd ν (Rl tg) r) (wL cI cB ad n ev at_ tg ac re un ch fa fr fu fg ft se kd rg) (fun u => wL cI cB ad n ev at_ tg u.1 u.2.1 un u.2.2 fa fr fu fg ft se kd rg) sz) ([.ref (ad 0)] : List Value).toArray s 0 0 (va_A (wL cI cB ad n ev at_ tg ac re un ch fa fr fu fg ft se kd rg) sz)) (F0 m 17 ls []) := by
    intro fl
    induction fl with
    | zero =>
      intro t acO reO chO ht hf hO
      exact absurd hf (by omega)
    | succ fl ih17 =>
      intro t acO reO chO ht hf hO H locs hP hD hS ls hl
      refine lv_iload_n hx hb dX1_grounded_17 rfl (lv_at hl 1 rfl) ?_
      refine lv_aload_n hx hb dX1_grounded_18 rfl (lv_at hl 0 rfl) ?_
      refine gX1_n hx hb hts hown hK hP dX1_grounded_19 ?_
      refine lv_icmp_gt (tgt := 121) hx hb dX1_grounded_22 (by decide) (fun c1 => ?_) (fun c1 => ?_)
      · refine lv_aload_n hx hb dX1_grounded_121 rfl (lv_at hl 0 rfl) ?_
        refine gX1_ac hx hb hts hown hK hP dX1_grounded_122 ?_
        exact greti hx hb hr hlocks (acO, reO, chO) (by exact gO_end hv hat hO (Or.inr (kgtM hn (by omega) ht c1))) hP hD hS dX1_grounded_125
      · have htle : t ≤ ν := kleM hn (by omega) c1
        refine lv_aload_n hx hb dX1_grounded_25 rfl (lv_at hl 0 rfl) ?_
        refine gX1_ch hx hb hts hown hK hP dX1_grounded_26 ?_
        refine lv_if_eq (tgt := 121) hx hb dX1_grounded_29 (by decide) (fun c2 => ?_) (fun c2 => ?_)
        · refine lv_aload_n hx hb dX1_grounded_121 rfl (lv_at hl 0 rfl) ?_
          refine gX1_ac hx hb hts hown hK hP dX1_grounded_122 ?_
          exact greti hx hb hr hlocks (acO, reO, chO) (by exact gO_end hv hat hO (Or.inl c2)) hP hD hS dX1_grounded_125
        · refine lv_aload_n hx hb dX1_grounded_32 rfl (lv_at hl 0 rfl) ?_
          refine lv_iconst (v := 0) hx hb dX1_grounded_33 (by decide) ?_
          refine pX1_ch hx hb hts hown hK hP hD hS rfl rfl dX1_grounded_34 (fun H locs hP hD hS => ?_)
          refine lv_iconst (v := 0) hx hb dX1_grounded_37 (by decide) ?_
          refine lv_istore_n (lv' := [(2, .int 0), (0, .ref (ad 0)), (1, .int (nI t))]) hx hb dX1_grounded_38 rfl hl (by decide) rfl (fun ls hl => ?_)
          have loop39 : ∀ (fl : Nat) (k : Nat) (acI : Int32) (reI : Int32) (chI : Int32), k ≤ ν → ν < k + fl → gI ν (Rl tg) at_ k t acI reI chI → ∀ (H : Heap) (locs : List Loc), va_P (dC, dI) cl2 (wL cI cB ad n ev at_ tg acI reI un chI fa fr fu fg ft se kd rg) H → va_D (va_A (wL cI cB ad n ev at_ tg ac re un ch fa fr fu fg ft se kd rg) sz) (wL cI cB ad n ev at_ tg acI reI un chI fa fr fu fg ft se kd rg) → va_S (va_A (wL cI cB ad n ev at_ tg ac re un ch fa fr fu fg ft se kd rg) sz) s.heap H locs → ∀ (ls : Array Slot), lv_has ls 3 [(0, .ref (ad 0)), (1, .int (nI t)), (2, .int (nI k))] → W p l e rm_X1_grounded s m ([.ref (ad 0)] : List Value).toArray below meth c H locs 0 0 (MQ below (gQi (dC, dI) (fun (r : Int32) (u : Int32 × Int32 × Int32) => x_grd ν (Rl tg) r) (wL cI cB ad n ev at_ tg ac re un ch fa fr fu fg ft se kd rg) (fun u => wL cI cB ad n ev at_ tg u.1 u.2.1 un u.2.2 fa fr fu fg ft se kd rg) sz) ([.ref (ad 0)] : List Value).toArray s 0 0 (va_A (wL cI cB ad n ev at_ tg ac re un ch fa fr fu fg ft se kd rg) sz)) (F0 m 39 ls []) := by
            intro fl
            induction fl with
            | zero =>
              intro k acI reI chI hk hg hI
              exact absurd hg (by omega)
            | succ fl ih39 =>
              intro k acI reI chI hk hg hI H locs hP hD hS ls hl
              refine lv_iload_n hx hb dX1_grounded_39 rfl (lv_at hl 2 rfl) ?_
              refine lv_aload_n hx hb dX1_grounded_40 rfl (lv_at hl 0 rfl) ?_
              refine gX1_n hx hb hts hown hK hP dX1_grounded_41 ?_
              refine lv_icmp_ge (tgt := 115) hx hb dX1_grounded_44 (by decide) (fun c3 => ?_) (fun c3 => ?_)
              · refine lv_iinc (v := (nI (t + 1))) (lv' := [(1, .int (nI (t + 1))), (0, .ref (ad 0)), (2, .int (nI k))]) hx hb dX1_grounded_115 hl (k := 1) rfl (nI_1 t) (by decide) rfl (fun ls hl => ?_)
                refine lv_goto (tgt := 17) hx hb dX1_grounded_118 (by decide) ?_
                exact ih17 (t + 1) acI reI chI (by omega) (by omega) (gI_out (kge hn (by omega) hk c3 ▸ hI)) H locs hP hD hS ls (lv_sub hl [1, 0] rfl)
              · have hltk : k < ν := klt hn (by omega) c3
                refine lv_aload_n hx hb dX1_grounded_47 rfl (lv_at hl 0 rfl) ?_
                refine gX1_at_ hx hb hts hown hK hP dX1_grounded_48 ?_
                refine lv_iload_n hx hb dX1_grounded_51 rfl (lv_at hl 2 rfl) ?_
                refine lX1_at_ hx hb hK hP k rfl (by omega : k < 8) dX1_grounded_52 ?_
                refine lv_aload_n hx hb dX1_grounded_53 rfl (lv_at hl 0 rfl) ?_
                refine gX1_re hx hb hts hown hK hP dX1_grounded_54 ?_
                refine lv_iconst (v := (-1)) hx hb dX1_grounded_57 (by decide) ?_
                refine lv_ixor hx hb dX1_grounded_58 ?_
                refine lv_iand hx hb dX1_grounded_59 ?_
                refine lv_if_ne (tgt := 109) hx hb dX1_grounded_60 (by decide) (fun c4 => ?_) (fun c4 => ?_)
                · refine lv_iinc (v := (nI (k + 1))) (lv' := [(2, .int (nI (k + 1))), (0, .ref (ad 0)), (1, .int (nI t))]) hx hb dX1_grounded_109 hl (k := 2) rfl (nI_1 k) (by decide) rfl (fun ls hl => ?_)
                  refine lv_goto (tgt := 39) hx hb dX1_grounded_112 (by decide) ?_
                  exact ih39 (k + 1) acI reI chI (by omega) (by omega) (gI_skip hI (fun q => absurd q c4)) H locs hP hD hS ls (lv_sub hl [1, 2, 0] rfl)
                · refine lv_aload_n hx hb dX1_grounded_63 rfl (lv_at hl 0 rfl) ?_
                  refine gX1_ac hx hb hts hown hK hP dX1_grounded_64 ?_
                  refine lv_iload_n hx hb dX1_grounded_67 rfl (lv_at hl 2 rfl) ?_
                  refine lv_ishr hx hb dX1_grounded_68 ?_
                  refine lv_iconst (v := 1) hx hb dX1_grounded_69 (by decide) ?_
                  refine lv_iand hx hb dX1_grounded_70 ?_
                  refine lv_if_eq (tgt := 77) hx hb dX1_grounded_71 (by decide) (fun c5 => ?_) (fun c5 => ?_)
                  · refine lv_aload_n hx hb dX1_grounded_77 rfl (lv_at hl 0 rfl) ?_
                    refine lv_dup hx hb dX1_grounded_78 rfl ?_
                    refine gX1_ac hx hb hts hown hK hP dX1_grounded_79 ?_
                    refine lv_iconst (v := 1) hx hb dX1_grounded_82 (by decide) ?_
                    refine lv_iload_n hx hb dX1_grounded_83 rfl (lv_at hl 2 rfl) ?_
                    refine lv_ishl hx hb dX1_grounded_84 ?_
                    refine lv_ior hx hb dX1_grounded_85 ?_
                    refine pX1_ac hx hb hts hown hK hP hD hS dX1_grounded_86 (fun H locs hP hD hS => ?_)
                    refine lv_aload_n hx hb dX1_grounded_89 rfl (lv_at hl 0 rfl) ?_
                    refine lv_dup hx hb dX1_grounded_90 rfl ?_
                    refine gX1_re hx hb hts hown hK hP dX1_grounded_91 ?_
                    refine lv_aload_n hx hb dX1_grounded_94 rfl (lv_at hl 0 rfl) ?_
                    refine gX1_tg hx hb hts hown hK hP dX1_grounded_95 ?_
                    refine lv_iload_n hx hb dX1_grounded_98 rfl (lv_at hl 2 rfl) ?_
                    refine lX1_tg hx hb hK hP k rfl (by omega : k < 8) dX1_grounded_99 ?_
                    refine lv_ior hx hb dX1_grounded_100 ?_
                    refine pX1_re hx hb hts hown hK hP hD hS dX1_grounded_101 (fun H locs hP hD hS => ?_)
                    refine lv_aload_n hx hb dX1_grounded_104 rfl (lv_at hl 0 rfl) ?_
                    refine lv_iconst (v := 1) hx hb dX1_grounded_105 (by decide) ?_
                    refine pX1_ch hx hb hts hown hK hP hD hS rfl rfl dX1_grounded_106 (fun H locs hP hD hS => ?_)
                    refine lv_iinc (v := (nI (k + 1))) (lv' := [(2, .int (nI (k + 1))), (0, .ref (ad 0)), (1, .int (nI t))]) hx hb dX1_grounded_109 hl (k := 2) rfl (nI_1 k) (by decide) rfl (fun ls hl => ?_)
                    refine lv_goto (tgt := 39) hx hb dX1_grounded_112 (by decide) ?_
                    exact ih39 (k + 1) (acI ||| (1 <<< ((nI k) &&& 31))) (reI ||| (tg k)) 1 (by omega) (by omega) (gI_take hv hR hat Rl_tg hltk hI c4 ((b_bit0 (by omega)).mp c5)) H locs hP hD hS ls (lv_sub hl [1, 2, 0] rfl)
                  · refine lv_goto (tgt := 109) hx hb dX1_grounded_74 (by decide) ?_
                    refine lv_iinc (v := (nI (k + 1))) (lv' := [(2, .int (nI (k + 1))), (0, .ref (ad 0)), (1, .int (nI t))]) hx hb dX1_grounded_109 hl (k := 2) rfl (nI_1 k) (by decide) rfl (fun ls hl => ?_)
                    refine lv_goto (tgt := 39) hx hb dX1_grounded_112 (by decide) ?_
                    exact ih39 (k + 1) acI reI chI (by omega) (by omega) (gI_skip hI (fun _ => (b_bitn (by omega)).mp c5)) H locs hP hD hS ls (lv_sub hl [1, 2, 0] rfl)
          exact loop39 9 0 acO reO 0 (by omega) (by omega) (gO_in hO c2) H locs hP hD hS ls (lv_sub hl [1, 2, 0] rfl)
  exact loop17 10 0 0 0 1 (by omega) (by omega) gO_0 H locs hP hD hS ls (lv_sub hl [1, 0] rfl)
end
section
abbrev rm_X1_search : Room := { frames := 3, cells := 0, slots := 0, locals := 70 }
set_option maxHeartbeats 4000000 in
set_option maxRecDepth 100000 in
theorem metX1_search (l : Launch) (dC : Nat → ClassId) (dI : Nat → Nat → Nat) (cI cB : ClassId) (ad : Nat → Nat) (sz : Nat) (n : Int32) (ev : Int32) (at_ : Nat → Int32) (tg : Nat → Int32) (ac : Int32) (re : Int32) (un : Int32) (ch : Int32) (fa : Nat → Int32) (fr : Nat → Int32) (fu : Nat → Int32) (fg : Nat → Int32) (ft : Nat → Int32) (se : Int32) (kd : Nat → Int32) (rg : Nat → Int32) (ν : Nat) (hn : n = nI ν) (hev : ev = nI (allN ν)) (hF : FW ν at_ tg) (hse : ¬ se = 0 → KD ν (Rl tg) kd) : Met l yX1_search (ws_ yX1_search cX1_search 4 none) rm_X1_search (gP (dC, dI) (tyL cI cB) (wL cI cB ad n ev at_ tg ac re un ch fa fr fu fg ft se kd rg) sz [.ref (ad 0)]) (gQv (dC, dI) (fun (u : Int32 × Int32 × Int32 × Int32 × (Nat → Int32) × (Nat → Int32) × (Nat → Int32) × (Nat → Int32) × (Nat → Int32) × Int32 × (Nat → Int32) × (Nat → Int32)) => KD ν (Rl tg) u.2.2.2.2.2.2.2.2.2.2.1) (wL cI cB ad n ev at_ tg ac re un ch fa fr fu fg ft se kd rg) (fun u => wL cI cB ad n ev at_ tg u.1 u.2.1 u.2.2.1 u.2.2.2.1 u.2.2.2.2.1 u.2.2.2.2.2.1 u.2.2.2.2.2.2.1 u.2.2.2.2.2.2.2.1 u.2.2.2.2.2.2.2.2.1 u.2.2.2.2.2.2.2.2.2.1 u.2.2.2.2.2.2.2.2.2.2.1 u.2.2.2.2.2.2.2.2.2.2.2) sz) 0 0 (va_A (wL cI cB ad n ev at_ tg ac re un ch fa fr fu fg ft se kd rg) sz) := by
  refine gstart (own := RX1) (by decide) rfl (Nat.le_of_ble_eq_true rfl) ?_
  intro p e s m below meth c hx hb hr hlocks hml hown hts hsz hP hK hD hA hnm ls hl
  have hS : va_S (va_A (wL cI cB ad n ev at_ tg ac re un ch fa fr fu fg ft se kd rg) sz) s.heap s.heap [] := va_S.rf
  have hl : lv_has ls 4 [(0, .ref (ad 0))] := hl
  obtain ⟨hv, hR, hat⟩ := id hF
  refine lv_aload_n hx hb dX1_search_0 rfl (lv_at hl 0 rfl) ?_
  refine gX1_se hx hb hts hown hK hP dX1_search_1 ?_
  refine lv_if_eq (tgt := 8) hx hb dX1_search_4 (by decide) (fun c1 => ?_) (fun c1 => ?_)
  · refine lv_iconst (v := 0) hx hb dX1_search_8 (by decide) ?_
    refine lv_istore_n (lv' := [(1, .int 0), (0, .ref (ad 0))]) hx hb dX1_search_9 rfl hl (by decide) rfl (fun ls hl => ?_)
    have loop10 : ∀ (fl : Nat) (k : Nat) (kc : Nat → Int32), k ≤ 256 → 256 < k + fl → (∀ j, j < k → kc j = 0) → ∀ (H : Heap) (locs : List Loc), va_P (dC, dI) cl2 (wL cI cB ad n ev at_ tg ac re un ch fa fr fu fg ft se kc rg) H → va_D (va_A (wL cI cB ad n ev at_ tg ac re un ch fa fr fu fg ft se kd rg) sz) (wL cI cB ad n ev at_ tg ac re un ch fa fr fu fg ft se kc rg) → va_S (va_A (wL cI cB ad n ev at_ tg ac re un ch fa fr fu fg ft se kd rg) sz) s.heap H locs → ∀ (ls : Array Slot), lv_has ls 4 [(0, .ref (ad 0)), (1, .int (nI k))] → W p l e rm_X1_search s m ([.ref (ad 0)] : List Value).toArray below meth c H locs 0 0 (MQ below (gQv (dC, dI) (fun (u : Int32 × Int32 × Int32 × Int32 × (Nat → Int32) × (Nat → Int32) × (Nat → Int32) × (Nat → Int32) × (Nat → Int32) × Int32 × (Nat → Int32) × (Nat → Int32)) => KD ν (Rl tg) u.2.2.2.2.2.2.2.2.2.2.1) (wL cI cB ad n ev at_ tg ac re un ch fa fr fu fg ft se kd rg) (fun u => wL cI cB ad n ev at_ tg u.1 u.2.1 u.2.2.1 u.2.2.2.1 u.2.2.2.2.1 u.2.2.2.2.2.1 u.2.2.2.2.2.2.1 u.2.2.2.2.2.2.2.1 u.2.2.2.2.2.2.2.2.1 u.2.2.2.2.2.2.2.2.2.1 u.2.2.2.2.2.2.2.2.2.2.1 u.2.2.2.2.2.2.2.2.2.2.2) sz) ([.ref (ad 0)] : List Value).toArray s 0 0 (va_A (wL cI cB ad n ev at_ tg ac re un ch fa fr fu fg ft se kd rg) sz)) (F0 m 10 ls []) := by
      intro fl
      induction fl with
      | zero =>
        intro k kc hk hf hZ
        exact absurd hf (by omega)
      | succ fl ih10 =>
        intro k kc hk hf hZ H locs hP hD hS ls hl
        refine lv_iload_n hx hb dX1_search_10 rfl (lv_at hl 1 rfl) ?_
        refine lv_sipush (v := 256) hx hb dX1_search_11 (by decide) ?_
        refine lv_icmp_ge (tgt := 30) hx hb dX1_search_14 (by decide) (fun c2 => ?_) (fun c2 => ?_)
        · have hz : ∀ j, j < 256 → kc j = 0 := by have q := kge (by decide : (256 : Int32) = nI 256) (by decide) hk c2; rw [q] at hZ; exact hZ
          refine lv_aload_n hx hb dX1_search_30 rfl (lv_at hl 0 rfl) ?_
          refine lv_iconst (v := 0) hx hb dX1_search_31 (by decide) ?_
          refine pX1_ac hx hb hts hown hK hP hD hS dX1_search_32 (fun H locs hP hD hS => ?_)
          refine lv_aload_n hx hb dX1_search_35 rfl (lv_at hl 0 rfl) ?_
          refine lv_iconst (v := 0) hx hb dX1_search_36 (by decide) ?_
          refine pX1_re hx hb hts hown hK hP hD hS dX1_search_37 (fun H locs hP hD hS => ?_)
          refine lv_aload_n hx hb dX1_search_40 rfl (lv_at hl 0 rfl) ?_
          refine lv_iconst (v := 0) hx hb dX1_search_41 (by decide) ?_
          refine pX1_un hx hb hts hown hK hP hD hS dX1_search_42 (fun H locs hP hD hS => ?_)
          refine lv_iconst (v := (-1)) hx hb dX1_search_45 (by decide) ?_
          refine lv_istore_n (lv' := [(1, .int (-1)), (0, .ref (ad 0))]) hx hb dX1_search_46 rfl hl (by decide) rfl (fun ls hl => ?_)
          have loop62 : ∀ (fl : Nat) (stp : Nat) (t : Nat) (d : Int32) (acS : Int32) (reS : Int32) (unS : Int32) (chS : Int32) (faS : Nat → Int32) (frS : Nat → Int32) (fuS : Nat → Int32) (fgS : Nat → Int32) (ftS : Nat → Int32) (kdS : Nat → Int32) (rgS : Nat → Int32), d + 1 = nI t → stp + wS faS frS fuS ftS t ≤ 13120 → 13120 < stp + fl → sI ν (Rl tg) (fun _ => False) t faS frS fuS fgS ftS kdS rgS → ∀ (H : Heap) (locs : List Loc), va_P (dC, dI) cl2 (wL cI cB ad n ev at_ tg acS reS unS chS faS frS fuS fgS ftS se kdS rgS) H → va_D (va_A (wL cI cB ad n ev at_ tg ac re un ch fa fr fu fg ft se kd rg) sz) (wL cI cB ad n ev at_ tg acS reS unS chS faS frS fuS fgS ftS se kdS rgS) → va_S (va_A (wL cI cB ad n ev at_ tg ac re un ch fa fr fu fg ft se kd rg) sz) s.heap H locs → ∀ (ls : Array Slot), lv_has ls 4 [(0, .ref (ad 0)), (1, .int d), (2, .int (nI stp))] → W p l e rm_X1_search s m ([.ref (ad 0)] : List Value).toArray below meth c H locs 0 0 (MQ below (gQv (dC, dI) (fun (u : Int32 × Int32 × Int32 × Int32 × (Nat → Int32) × (Nat → Int32) × (Nat → Int32) × (Nat → Int32) × (Nat → Int32) × Int32 × (Nat → Int32) × (Nat → Int32)) => KD ν (Rl tg) u.2.2.2.2.2.2.2.2.2.2.1) (wL cI cB ad n ev at_ tg ac re un ch fa fr fu fg ft se kd rg) (fun u => wL cI cB ad n ev at_ tg u.1 u.2.1 u.2.2.1 u.2.2.2.1 u.2.2.2.2.1 u.2.2.2.2.2.1 u.2.2.2.2.2.2.1 u.2.2.2.2.2.2.2.1 u.2.2.2.2.2.2.2.2.1 u.2.2.2.2.2.2.2.2.2.1 u.2.2.2.2.2.2.2.2.2.2.1 u.2.2.2.2.2.2.2.2.2.2.2) sz) ([.ref (ad 0)] : List Value).toArray s 0 0 (va_A (wL cI cB ad n ev at_ tg ac re un ch fa fr fu fg ft se kd rg) sz)) (F0 m 62 ls []) := by
            intro fl
            induction fl with
            | zero =>
              intro stp t d acS reS unS chS faS frS fuS fgS ftS kdS rgS hd hW hf hs
              exact absurd hf (by omega)
            | succ fl ih62 =>
              intro stp t d acS reS unS chS faS frS fuS fgS ftS kdS rgS hd hW hf hs H locs hP hD hS ls hl
              refine lv_iload_n hx hb dX1_search_62 rfl (lv_at hl 2 rfl) ?_
              refine lv_sipush (v := 30000) hx hb dX1_search_63 (by decide) ?_
              refine lv_icmp_ge (tgt := 161) hx hb dX1_search_66 (by decide) (fun c3 => ?_) (fun c3 => ?_)
              · exact absurd (show nI 30000 ≤ nI stp from c3) (nI_ge (by omega) (by omega))
              · refine lv_iload_n hx hb dX1_search_69 rfl (lv_at hl 1 rfl) ?_
                refine lv_if_lt (tgt := 161) hx hb dX1_search_70 (by decide) (fun c4 => ?_) (fun c4 => ?_)
                · have ht0 := dneg hd (sI_t8 hv hs) c4
                  subst ht0
                  have h01 : ∀ o, o < 256 → kdS o = 0 ∨ kdS o = 1 := fun o ho => (hs.1 o ho).elim Or.inl (fun z => Or.inr z.1)
                  have hall : ∀ e, e < 256 → com ν (Rl tg) (nI e) → kdS e = 1 := fun e he hc => (hs.2.2 e he hc).resolve_right (fun z => z.elim (fun y => by obtain ⟨i, y, -⟩ := y; omega) id)
                  refine lv_aload_n hx hb dX1_search_161 rfl (lv_at hl 0 rfl) ?_
                  refine gcallv (As := []) (rest := []) ⟨hx, hb, hml, hown, hts⟩ (metX1_compare l dC dI cI cB ad H.size n ev at_ tg acS reS unS chS faS frS fuS fgS ftS se kdS rgS h01) (cw_X1_compare hts ⟨Nat.le_of_ble_eq_true rfl, Nat.le_of_ble_eq_true rfl⟩) hK hP hD hS hA (ci := 0) (q0 := 0) rfl rfl hl.1 rfl (Nat.le_of_ble_eq_true rfl) dX1_search_162 ⟨Nat.le_of_ble_eq_true rfl, Nat.le_of_ble_eq_true rfl⟩ (fun kdC H locs hC hP hD hS => ?_)
                  have hP : va_P (dC, dI) cl2 (wL cI cB ad n ev at_ tg acS reS unS chS faS frS fuS fgS ftS se kdC rgS) H := hP
                  have hD : va_D (va_A (wL cI cB ad n ev at_ tg ac re un ch fa fr fu fg ft se kd rg) sz) (wL cI cB ad n ev at_ tg acS reS unS chS faS frS fuS fgS ftS se kdC rgS) := hD
                  refine lv_aload_n hx hb dX1_search_165 rfl (lv_at hl 0 rfl) ?_
                  refine lv_iconst (v := 1) hx hb dX1_search_166 (by decide) ?_
                  refine pX1_se hx hb hts hown hK hP hD hS rfl rfl dX1_search_167 (fun H locs hP hD hS => ?_)
                  exact gretv hx hb hr hlocks (acS, reS, unS, chS, faS, frS, fuS, fgS, ftS, 1, kdC, rgS) (by exact kd_fin hv hR hev hs.1 hall hC) hP hD hS dX1_search_170
                · obtain ⟨t', et, ed⟩ := dpos hd c4
                  subst et
                  have ht8 := sI_t8 hv hs
                  obtain ⟨g, τ, eg, eτ, hg, hτ, hM3, hopen, hcn⟩ := hs.2.1 t' (by omega)
                  refine lv_aload_n hx hb dX1_search_73 rfl (lv_at hl 0 rfl) ?_
                  refine gX1_ft hx hb hts hown hK hP dX1_search_74 ?_
                  refine lv_iload_n hx hb dX1_search_77 rfl (lv_at hl 1 rfl) ?_
                  refine lX1_ft hx hb hK hP t' ed (by omega) dX1_search_78 ?_
                  refine tope (y := (nI τ)) eτ ?_
                  refine lv_istore_n (lv' := [(3, .int (nI τ)), (0, .ref (ad 0)), (1, .int d), (2, .int (nI stp))]) hx hb dX1_search_79 rfl hl (by decide) rfl (fun ls hl => ?_)
                  refine lv_iload_n hx hb dX1_search_80 rfl (lv_at hl 0 rfl) ?_
                  refine lv_iconst (v := 3) hx hb dX1_search_81 (by decide) ?_
                  refine lv_icmp_ne (tgt := 91) hx hb dX1_search_82 (by decide) (fun c6 => ?_) (fun c6 => ?_)
                  · have hτ3 := tau3 hτ c6
                    refine lv_aload_n hx hb dX1_search_91 rfl (lv_at hl 1 rfl) ?_
                    refine gX1_ft hx hb hts hown hK hP dX1_search_92 ?_
                    refine lv_iload_n hx hb dX1_search_95 rfl (lv_at hl 2 rfl) ?_
                    refine lv_iload_n hx hb dX1_search_96 rfl (lv_at hl 0 rfl) ?_
                    refine lv_iconst (v := 1) hx hb dX1_search_97 (by decide) ?_
                    refine lv_iadd hx hb dX1_search_98 ?_
                    refine lv_i2b (v := (nI (τ + 1))) hx hb dX1_search_99 (byteT hτ3) ?_
                    refine sX1_ft hx hb hK hP hD hS t' ed (by omega) (y := (nI (τ + 1))) (byte8s (τ + 1) (by omega)) dX1_search_100 (fun H locs hP hD hS => ?_)
                    refine lv_aload_n hx hb dX1_search_101 rfl (lv_at hl 1 rfl) ?_
                    refine lv_aload_n hx hb dX1_search_102 rfl (lv_at hl 1 rfl) ?_
                    refine gX1_fa hx hb hts hown hK hP dX1_search_103 ?_
                    refine lv_iload_n hx hb dX1_search_106 rfl (lv_at hl 2 rfl) ?_
                    refine lX1_fa hx hb hK hP t' ed (by omega) dX1_search_107 ?_
                    refine pX1_ac hx hb hts hown hK hP hD hS dX1_search_108 (fun H locs hP hD hS => ?_)
                    refine lv_aload_n hx hb dX1_search_111 rfl (lv_at hl 1 rfl) ?_
                    refine lv_aload_n hx hb dX1_search_112 rfl (lv_at hl 1 rfl) ?_
                    refine gX1_fr hx hb hts hown hK hP dX1_search_113 ?_
                    refine lv_iload_n hx hb dX1_search_116 rfl (lv_at hl 2 rfl) ?_
                    refine lX1_fr hx hb hK hP t' ed (by omega) dX1_search_117 ?_
                    refine pX1_re hx hb hts hown hK hP hD hS dX1_search_118 (fun H locs hP hD hS => ?_)
                    refine lv_aload_n hx hb dX1_search_121 rfl (lv_at hl 1 rfl) ?_
                    refine lv_aload_n hx hb dX1_search_122 rfl (lv_at hl 1 rfl) ?_
                    refine gX1_fu hx hb hts hown hK hP dX1_search_123 ?_
                    refine lv_iload_n hx hb dX1_search_126 rfl (lv_at hl 2 rfl) ?_
                    refine lX1_fu hx hb hK hP t' ed (by omega) dX1_search_127 ?_
                    refine pX1_un hx hb hts hown hK hP hD hS dX1_search_128 (fun H locs hP hD hS => ?_)
                    refine lv_aload_n hx hb dX1_search_131 rfl (lv_at hl 1 rfl) ?_
                    refine lv_aload_n hx hb dX1_search_132 rfl (lv_at hl 1 rfl) ?_
                    refine gX1_fg hx hb hts hown hK hP dX1_search_133 ?_
                    refine lv_iload_n hx hb dX1_search_136 rfl (lv_at hl 2 rfl) ?_
                    refine lX1_fg hx hb hK hP t' ed (by omega) dX1_search_137 ?_
                    refine tope (y := (nI g)) eg ?_
                    refine lv_iload_n hx hb dX1_search_138 rfl (lv_at hl 0 rfl) ?_
                    refine gcallv (As := [.int (nI g), .int (nI τ)]) (rest := []) ⟨hx, hb, hml, hown, hts⟩ (metX1_label l dC dI cI cB ad H.size n ev at_ tg (faS t') (frS t') (fuS t') chS faS frS fuS fgS (upd ftS t' (nI (τ + 1))) se kdS rgS (nI g) (nI τ)) (cw_X1_label hts ⟨Nat.le_of_ble_eq_true rfl, Nat.le_of_ble_eq_true rfl⟩) hK hP hD hS hA (ci := 0) (q0 := 0) rfl rfl hl.1 rfl (Nat.le_of_ble_eq_true rfl) dX1_search_139 ⟨Nat.le_of_ble_eq_true rfl, Nat.le_of_ble_eq_true rfl⟩ (fun u H locs hL hP hD hS => ?_)
                    obtain ⟨ac2, re2, un2, ch2⟩ := u
                    have hP : va_P (dC, dI) cl2 (wL cI cB ad n ev at_ tg ac2 re2 un2 ch2 faS frS fuS fgS (upd ftS t' (nI (τ + 1))) se kdS rgS) H := hP
                    have hD : va_D (va_A (wL cI cB ad n ev at_ tg ac re un ch fa fr fu fg ft se kd rg) sz) (wL cI cB ad n ev at_ tg ac2 re2 un2 ch2 faS frS fuS fgS (upd ftS t' (nI (τ + 1))) se kdS rgS) := hD
                    obtain ⟨hs4, hM4, hc1, hc2, hc3, hw4⟩ := sI_try hv hs eg eτ hτ3 hg hL
                    refine lv_aload_n hx hb dX1_search_142 rfl (lv_at hl 1 rfl) ?_
                    refine gcalli (As := []) (rest := []) ⟨hx, hb, hml, hown, hts⟩ (metX1_propagate l dC dI cI cB ad H.size n ev at_ tg ac2 re2 un2 ch2 faS frS fuS fgS (upd ftS t' (nI (τ + 1))) se kdS rgS ν hn hev hF hM4) (cw_X1_propagate hts ⟨Nat.le_of_ble_eq_true rfl, Nat.le_of_ble_eq_true rfl⟩) hK hP hD hS hA (ci := 0) (q0 := 0) rfl rfl hl.1 rfl (Nat.le_of_ble_eq_true rfl) dX1_search_143 ⟨Nat.le_of_ble_eq_true rfl, Nat.le_of_ble_eq_true rfl⟩ (fun r3 u H locs hP3 hP hD hS => ?_)
                    obtain ⟨ac3, re3, un3, ch3⟩ := u
                    have hP : va_P (dC, dI) cl2 (wL cI cB ad n ev at_ tg ac3 re3 un3 ch3 faS frS fuS fgS (upd ftS t' (nI (τ + 1))) se kdS rgS) H := hP
                    have hD : va_D (va_A (wL cI cB ad n ev at_ tg ac re un ch fa fr fu fg ft se kd rg) sz) (wL cI cB ad n ev at_ tg ac3 re3 un3 ch3 faS frS fuS fgS (upd ftS t' (nI (τ + 1))) se kdS rgS) := hD
                    refine lv_if_eq (tgt := 155) hx hb dX1_search_146 (by decide) (fun c9 => ?_) (fun c9 => ?_)
                    · have hs5 := sI_mono (P' := fun _ => False) hs4 (fun E hE z => (hP3.resolve_right (fun q => absurd (q.1.symm.trans c9) (by decide))).2 E hE z)
                      refine lv_iinc (v := (nI (stp + 1))) (lv' := [(2, .int (nI (stp + 1))), (3, .int (nI τ)), (0, .ref (ad 0)), (1, .int d)]) hx hb dX1_search_155 hl (k := 3) rfl (nI_1 stp) (by decide) rfl (fun ls hl => ?_)
                      refine lv_goto (tgt := 62) hx hb dX1_search_158 (by decide) ?_
                      exact ih62 (stp + 1) (t' + 1) d ac3 re3 un3 ch3 faS frS fuS fgS (upd ftS t' (nI (τ + 1))) kdS rgS hd (by omega) (by omega) hs5 H locs hP hD hS ls (lv_sub hl [2, 3, 0] rfl)
                    · obtain ⟨-, hM6, hcc, hft, hst6⟩ := hP3.resolve_left (fun q => c9 q.1)
                      have hs6 := sI_mono (P' := fun E => fit (Rl tg) E ac3 re3 un3) hs4 (fun E hE z => hft E hE z)
                      obtain ⟨q, hq2, hq⟩ := Mk_num hv hM6.1
                      dsimp only at hcc
                      have hc6 : t' + 1 ≤ cn8 (lab ac3 re3 un3) := by omega
                      have hd6 : d + 1 = nI (t' + 1) := hd
                      refine lv_aload_n hx hb dX1_search_149 rfl (lv_at hl 1 rfl) ?_
                      refine lv_iload_n hx hb dX1_search_150 rfl (lv_at hl 2 rfl) ?_
                      refine gcalli (As := [.int d]) (rest := []) ⟨hx, hb, hml, hown, hts⟩ (metX1_branch l dC dI cI cB ad H.size n ev at_ tg ac3 re3 un3 ch3 faS frS fuS fgS (upd ftS t' (nI (τ + 1))) se kdS rgS (t' + 1) q d hd6 (by omega) hq hq2) (cw_X1_branch hts ⟨Nat.le_of_ble_eq_true rfl, Nat.le_of_ble_eq_true rfl⟩) hK hP hD hS hA (ci := 0) (q0 := 0) rfl rfl hl.1 rfl (Nat.le_of_ble_eq_true rfl) dX1_search_151 ⟨Nat.le_of_ble_eq_true rfl, Nat.le_of_ble_eq_true rfl⟩ (fun r6 u H locs hB6 hP hD hS => ?_)
                      obtain ⟨fa6, fr6, fu6, fg6, ft6, kd6, rg6⟩ := u
                      have hP : va_P (dC, dI) cl2 (wL cI cB ad n ev at_ tg ac3 re3 un3 ch3 fa6 fr6 fu6 fg6 ft6 se kd6 rg6) H := hP
                      have hD : va_D (va_A (wL cI cB ad n ev at_ tg ac re un ch fa fr fu fg ft se kd rg) sz) (wL cI cB ad n ev at_ tg ac3 re3 un3 ch3 fa6 fr6 fu6 fg6 ft6 se kd6 rg6) := hD
                      obtain ⟨t2, ht2, hd2, hs2, hw2⟩ := sI_branch hv hR hat hev hs6 hM6 hst6 hc6 hd6 hq hq2 hB6
                      refine lv_istore_n (lv' := [(1, .int r6), (3, .int (nI τ)), (0, .ref (ad 0)), (2, .int (nI stp))]) hx hb dX1_search_154 rfl hl (by decide) rfl (fun ls hl => ?_)
                      refine lv_iinc (v := (nI (stp + 1))) (lv' := [(2, .int (nI (stp + 1))), (1, .int r6), (3, .int (nI τ)), (0, .ref (ad 0))]) hx hb dX1_search_155 hl (k := 3) rfl (nI_1 stp) (by decide) rfl (fun ls hl => ?_)
                      refine lv_goto (tgt := 62) hx hb dX1_search_158 (by decide) ?_
                      exact ih62 (stp + 1) t2 r6 ac3 re3 un3 ch3 fa6 fr6 fu6 fg6 ft6 kd6 rg6 hd2 (by have := Wt_mono (show 8 - cn8 (lab ac3 re3 un3) ≤ 7 - cn8 (lab (faS t') (frS t') (fuS t')) by omega); omega) (by omega) hs2 H locs hP hD hS ls (lv_sub hl [3, 1, 0] rfl)
                  · have hpop := sI_pop hs (eτ.trans (show nI τ = nI 3 from c6))
                    refine lv_iinc (v := (d + (-1))) (lv' := [(1, .int (d + (-1))), (3, .int (nI τ)), (0, .ref (ad 0)), (2, .int (nI stp))]) hx hb dX1_search_85 hl (k := 2) rfl rfl (by decide) rfl (fun ls hl => ?_)
                    refine lv_goto (tgt := 155) hx hb dX1_search_88 (by decide) ?_
                    refine lv_iinc (v := (nI (stp + 1))) (lv' := [(2, .int (nI (stp + 1))), (1, .int (d + (-1))), (3, .int (nI τ)), (0, .ref (ad 0))]) hx hb dX1_search_155 hl (k := 3) rfl (nI_1 stp) (by decide) rfl (fun ls hl => ?_)
                    refine lv_goto (tgt := 62) hx hb dX1_search_158 (by decide) ?_
                    exact ih62 (stp + 1) t' (d + (-1)) acS reS unS chS faS frS fuS fgS ftS kdS rgS (popd ed) (by have := hpop.2; omega) (by omega) hpop.1 H locs hP hD hS ls (lv_sub hl [3, 1, 0] rfl)
          refine lv_aload_n hx hb dX1_search_47 rfl (lv_at hl 1 rfl) ?_
          refine gcalli (As := []) (rest := []) ⟨hx, hb, hml, hown, hts⟩ (metX1_propagate l dC dI cI cB ad H.size n ev at_ tg 0 0 0 ch fa fr fu fg ft se kc rg ν hn hev hF ⟨Mk_0, Mk_0, Mk_0⟩) (cw_X1_propagate hts ⟨Nat.le_of_ble_eq_true rfl, Nat.le_of_ble_eq_true rfl⟩) hK hP hD hS hA (ci := 0) (q0 := 0) rfl rfl hl.1 rfl (Nat.le_of_ble_eq_true rfl) dX1_search_48 ⟨Nat.le_of_ble_eq_true rfl, Nat.le_of_ble_eq_true rfl⟩ (fun r1 u H locs hP1 hP hD hS => ?_)
          obtain ⟨ac1, re1, un1, ch1⟩ := u
          have hP : va_P (dC, dI) cl2 (wL cI cB ad n ev at_ tg ac1 re1 un1 ch1 fa fr fu fg ft se kc rg) H := hP
          have hD : va_D (va_A (wL cI cB ad n ev at_ tg ac re un ch fa fr fu fg ft se kd rg) sz) (wL cI cB ad n ev at_ tg ac1 re1 un1 ch1 fa fr fu fg ft se kc rg) := hD
          refine lv_if_eq (tgt := 60) hx hb dX1_search_51 (by decide) (fun c12 => ?_) (fun c12 => ?_)
          · have hs0 := sI_mono (P' := fun _ => False) (sI_0 (ν := ν) (R := Rl tg) (fa := fa) (fr := fr) (fu := fu) (fg := fg) (ft := ft) (rg := rg) hz) (fun E hE z => (hP1.resolve_right (fun q => absurd (q.1.symm.trans c12) (by decide))).2 E hE z)
            refine lv_iconst (v := 0) hx hb dX1_search_60 (by decide) ?_
            refine lv_istore_n (lv' := [(2, .int 0), (1, .int (-1)), (0, .ref (ad 0))]) hx hb dX1_search_61 rfl hl (by decide) rfl (fun ls hl => ?_)
            exact loop62 13121 0 0 (-1) ac1 re1 un1 ch1 fa fr fu fg ft kc rg (by decide) (by rw [wS]; omega) (by omega) hs0 H locs hP hD hS ls (lv_sub hl [2, 1, 0] rfl)
          · obtain ⟨-, hM2, hcc, hft, hst2⟩ := hP1.resolve_left (fun q => c12 q.1)
            have hs2 := sI_mono (P' := fun E => fit (Rl tg) E ac1 re1 un1) (sI_0 (ν := ν) (R := Rl tg) (fa := fa) (fr := fr) (fu := fu) (fg := fg) (ft := ft) (rg := rg) hz) (fun E hE z => hft E hE z)
            obtain ⟨q, hq2, hq⟩ := Mk_num hv hM2.1
            have hc2 : 0 ≤ cn8 (lab ac1 re1 un1) := Nat.zero_le _
            have hd2 : ((-1 : Int32)) + 1 = nI 0 := by decide
            refine lv_aload_n hx hb dX1_search_54 rfl (lv_at hl 1 rfl) ?_
            refine lv_iload_n hx hb dX1_search_55 rfl (lv_at hl 0 rfl) ?_
            refine gcalli (As := [.int (-1)]) (rest := []) ⟨hx, hb, hml, hown, hts⟩ (metX1_branch l dC dI cI cB ad H.size n ev at_ tg ac1 re1 un1 ch1 fa fr fu fg ft se kc rg 0 q (-1) hd2 (by omega) hq hq2) (cw_X1_branch hts ⟨Nat.le_of_ble_eq_true rfl, Nat.le_of_ble_eq_true rfl⟩) hK hP hD hS hA (ci := 0) (q0 := 0) rfl rfl hl.1 rfl (Nat.le_of_ble_eq_true rfl) dX1_search_56 ⟨Nat.le_of_ble_eq_true rfl, Nat.le_of_ble_eq_true rfl⟩ (fun r2 u H locs hB2 hP hD hS => ?_)
            obtain ⟨fa2, fr2, fu2, fg2, ft2, kd2, rg2⟩ := u
            have hP : va_P (dC, dI) cl2 (wL cI cB ad n ev at_ tg ac1 re1 un1 ch1 fa2 fr2 fu2 fg2 ft2 se kd2 rg2) H := hP
            have hD : va_D (va_A (wL cI cB ad n ev at_ tg ac re un ch fa fr fu fg ft se kd rg) sz) (wL cI cB ad n ev at_ tg ac1 re1 un1 ch1 fa2 fr2 fu2 fg2 ft2 se kd2 rg2) := hD
            obtain ⟨t2, ht2, hd2, hs2, hw2⟩ := sI_branch hv hR hat hev hs2 hM2 hst2 hc2 hd2 hq hq2 hB2
            refine lv_istore_n (lv' := [(1, .int r2), (0, .ref (ad 0))]) hx hb dX1_search_59 rfl hl (by decide) rfl (fun ls hl => ?_)
            refine lv_iconst (v := 0) hx hb dX1_search_60 (by decide) ?_
            refine lv_istore_n (lv' := [(2, .int 0), (1, .int r2), (0, .ref (ad 0))]) hx hb dX1_search_61 rfl hl (by decide) rfl (fun ls hl => ?_)
            exact loop62 13121 0 t2 r2 ac1 re1 un1 ch1 fa2 fr2 fu2 fg2 ft2 kd2 rg2 hd2 (by have e8 := Wt_8; have := Wt_mono (show 8 - cn8 (lab ac1 re1 un1) ≤ 8 by omega); rw [wS] at hw2; omega) (by omega) hs2 H locs hP hD hS ls (lv_sub hl [2, 1, 0] rfl)
        · have hlt : k < 256 := klt (by decide : (256 : Int32) = nI 256) (by omega) c2
          refine lv_aload_n hx hb dX1_search_17 rfl (lv_at hl 0 rfl) ?_
          refine gX1_kd hx hb hts hown hK hP dX1_search_18 ?_
          refine lv_iload_n hx hb dX1_search_21 rfl (lv_at hl 1 rfl) ?_
          refine lv_iconst (v := 0) hx hb dX1_search_22 (by decide) ?_
          refine sX1_kd hx hb hK hP hD hS k rfl hlt (y := 0) (by decide) dX1_search_23 (fun H locs hP hD hS => ?_)
          refine lv_iinc (v := (nI (k + 1))) (lv' := [(1, .int (nI (k + 1))), (0, .ref (ad 0))]) hx hb dX1_search_24 hl (k := 1) rfl (nI_1 k) (by decide) rfl (fun ls hl => ?_)
          refine lv_goto (tgt := 10) hx hb dX1_search_27 (by decide) ?_
          exact ih10 (k + 1) (upd kc k 0) (by omega) (by omega) (clr_1 hZ) H locs hP hD hS ls (lv_sub hl [1, 0] rfl)
    exact loop10 257 0 kd (by omega) (by omega) lt_0 s.heap [] hP hD hS ls (lv_sub hl [1, 0] rfl)
  · exact gretv hx hb hr hlocks (ac, re, un, ch, fa, fr, fu, fg, ft, se, kd, rg) (by exact hse c1) hP hD hS dX1_search_7
end
section
abbrev rm_X1_count : Room := { frames := 4, cells := 0, slots := 0, locals := 93 }
set_option maxHeartbeats 4000000 in
set_option maxRecDepth 100000 in
theorem metX1_count (l : Launch) (dC : Nat → ClassId) (dI : Nat → Nat → Nat) (cI cB : ClassId) (ad : Nat → Nat) (sz : Nat) (n : Int32) (ev : Int32) (at_ : Nat → Int32) (tg : Nat → Int32) (ac : Int32) (re : Int32) (un : Int32) (ch : Int32) (fa : Nat → Int32) (fr : Nat → Int32) (fu : Nat → Int32) (fg : Nat → Int32) (ft : Nat → Int32) (se : Int32) (kd : Nat → Int32) (rg : Nat → Int32) (ν : Nat) (kind : Int32) (hn : n = nI ν) (hev : ev = nI (allN ν)) (hF : FW ν at_ tg) (hse : ¬ se = 0 → KD ν (Rl tg) kd) : Met l yX1_count (ws_ yX1_count cX1_count 4 (some .int)) rm_X1_count (gP (dC, dI) (tyL cI cB) (wL cI cB ad n ev at_ tg ac re un ch fa fr fu fg ft se kd rg) sz [.ref (ad 0), .int kind]) (gQi (dC, dI) (fun (r : Int32) (u : Int32 × Int32 × Int32 × Int32 × (Nat → Int32) × (Nat → Int32) × (Nat → Int32) × (Nat → Int32) × (Nat → Int32) × Int32 × (Nat → Int32) × (Nat → Int32)) => x_ans ν (Rl tg) kind r (fun r => r = nI (g_cnt (xP ν (Rl tg) kind) 256)) u.2.2.2.2.2.2.2.2.2.1 u.2.2.2.2.2.2.2.2.2.2.1) (wL cI cB ad n ev at_ tg ac re un ch fa fr fu fg ft se kd rg) (fun u => wL cI cB ad n ev at_ tg u.1 u.2.1 u.2.2.1 u.2.2.2.1 u.2.2.2.2.1 u.2.2.2.2.2.1 u.2.2.2.2.2.2.1 u.2.2.2.2.2.2.2.1 u.2.2.2.2.2.2.2.2.1 u.2.2.2.2.2.2.2.2.2.1 u.2.2.2.2.2.2.2.2.2.2.1 u.2.2.2.2.2.2.2.2.2.2.2) sz) 0 0 (va_A (wL cI cB ad n ev at_ tg ac re un ch fa fr fu fg ft se kd rg) sz) := by
  refine gstart (own := RX1) (by decide) rfl (Nat.le_of_ble_eq_true rfl) ?_
  intro p e s m below meth c hx hb hr hlocks hml hown hts hsz hP hK hD hA hnm ls hl
  have hS : va_S (va_A (wL cI cB ad n ev at_ tg ac re un ch fa fr fu fg ft se kd rg) sz) s.heap s.heap [] := va_S.rf
  have hl : lv_has ls 4 [(0, .ref (ad 0)), (1, .int kind)] := hl
  refine lv_iload_n hx hb dX1_count_0 rfl (lv_at hl 1 rfl) ?_
  refine lv_if_lt (tgt := 9) hx hb dX1_count_1 (by decide) (fun c1 => ?_) (fun c1 => ?_)
  · refine lv_iconst (v := (-1)) hx hb dX1_count_9 (by decide) ?_
    exact greti hx hb hr hlocks (ac, re, un, ch, fa, fr, fu, fg, ft, se, kd, rg) (by exact ⟨hse, Or.inl ⟨fun h => h.1 c1, rfl⟩⟩) hP hD hS dX1_count_10
  · refine lv_iload_n hx hb dX1_count_4 rfl (lv_at hl 1 rfl) ?_
    refine lv_iconst (v := 3) hx hb dX1_count_5 (by decide) ?_
    refine lv_icmp_le (tgt := 11) hx hb dX1_count_6 (by decide) (fun c2 => ?_) (fun c2 => ?_)
    · refine lv_aload_n hx hb dX1_count_11 rfl (lv_at hl 0 rfl) ?_
      refine gcallv (As := []) (rest := []) ⟨hx, hb, hml, hown, hts⟩ (metX1_search l dC dI cI cB ad s.heap.size n ev at_ tg ac re un ch fa fr fu fg ft se kd rg ν hn hev hF hse) (cw_X1_search hts ⟨Nat.le_of_ble_eq_true rfl, Nat.le_of_ble_eq_true rfl⟩) hK hP hD hS hA (ci := 0) (q0 := 0) rfl rfl hl.1 rfl (Nat.le_of_ble_eq_true rfl) dX1_count_12 ⟨Nat.le_of_ble_eq_true rfl, Nat.le_of_ble_eq_true rfl⟩ (fun u H locs hKD hP hD hS => ?_)
      obtain ⟨acS, reS, unS, chS, faS, frS, fuS, fgS, ftS, seS, kdS, rgS⟩ := u
      have hP : va_P (dC, dI) cl2 (wL cI cB ad n ev at_ tg acS reS unS chS faS frS fuS fgS ftS seS kdS rgS) H := hP
      have hD : va_D (va_A (wL cI cB ad n ev at_ tg ac re un ch fa fr fu fg ft se kd rg) sz) (wL cI cB ad n ev at_ tg acS reS unS chS faS frS fuS fgS ftS seS kdS rgS) := hD
      dsimp only at hKD
      have hkind := kindP_in c1 c2
      refine lv_iconst (v := 0) hx hb dX1_count_15 (by decide) ?_
      refine lv_istore_n (lv' := [(2, .int 0), (0, .ref (ad 0)), (1, .int kind)]) hx hb dX1_count_16 rfl hl (by decide) rfl (fun ls hl => ?_)
      refine lv_iconst (v := 0) hx hb dX1_count_17 (by decide) ?_
      refine lv_istore_n (lv' := [(3, .int 0), (2, .int 0), (0, .ref (ad 0)), (1, .int kind)]) hx hb dX1_count_18 rfl hl (by decide) rfl (fun ls hl => ?_)
      have loop19 : ∀ (fl : Nat) (k : Nat) (x2 : Int32), k ≤ 256 → 256 < k + fl → x2 = nI (g_cnt (xP ν (Rl tg) kind) k) → ∀ (H : Heap) (locs : List Loc), va_P (dC, dI) cl2 (wL cI cB ad n ev at_ tg acS reS unS chS faS frS fuS fgS ftS seS kdS rgS) H → va_D (va_A (wL cI cB ad n ev at_ tg ac re un ch fa fr fu fg ft se kd rg) sz) (wL cI cB ad n ev at_ tg acS reS unS chS faS frS fuS fgS ftS seS kdS rgS) → va_S (va_A (wL cI cB ad n ev at_ tg ac re un ch fa fr fu fg ft se kd rg) sz) s.heap H locs → ∀ (ls : Array Slot), lv_has ls 4 [(0, .ref (ad 0)), (1, .int kind), (2, .int x2), (3, .int (nI k))] → W p l e rm_X1_count s m ([.ref (ad 0), .int kind] : List Value).toArray below meth c H locs 0 0 (MQ below (gQi (dC, dI) (fun (r : Int32) (u : Int32 × Int32 × Int32 × Int32 × (Nat → Int32) × (Nat → Int32) × (Nat → Int32) × (Nat → Int32) × (Nat → Int32) × Int32 × (Nat → Int32) × (Nat → Int32)) => x_ans ν (Rl tg) kind r (fun r => r = nI (g_cnt (xP ν (Rl tg) kind) 256)) u.2.2.2.2.2.2.2.2.2.1 u.2.2.2.2.2.2.2.2.2.2.1) (wL cI cB ad n ev at_ tg ac re un ch fa fr fu fg ft se kd rg) (fun u => wL cI cB ad n ev at_ tg u.1 u.2.1 u.2.2.1 u.2.2.2.1 u.2.2.2.2.1 u.2.2.2.2.2.1 u.2.2.2.2.2.2.1 u.2.2.2.2.2.2.2.1 u.2.2.2.2.2.2.2.2.1 u.2.2.2.2.2.2.2.2.2.1 u.2.2.2.2.2.2.2.2.2.2.1 u.2.2.2.2.2.2.2.2.2.2.2) sz) ([.ref (ad 0), .int kind] : List Value).toArray s 0 0 (va_A (wL cI cB ad n ev at_ tg ac re un ch fa fr fu fg ft se kd rg) sz)) (F0 m 19 ls []) := by
        intro fl
        induction fl with
        | zero =>
          intro k x2 hk hf e2
          exact absurd hf (by omega)
        | succ fl ih19 =>
          intro k x2 hk hf e2 H locs hP hD hS ls hl
          refine lv_iload_n hx hb dX1_count_19 rfl (lv_at hl 3 rfl) ?_
          refine lv_sipush (v := 256) hx hb dX1_count_20 (by decide) ?_
          refine lv_icmp_ge (tgt := 45) hx hb dX1_count_23 (by decide) (fun c4 => ?_) (fun c4 => ?_)
          · refine lv_iload_n hx hb dX1_count_45 rfl (lv_at hl 2 rfl) ?_
            exact greti hx hb hr hlocks (acS, reS, unS, chS, faS, frS, fuS, fgS, ftS, seS, kdS, rgS) (by exact ⟨fun _ => hKD, Or.inr ⟨hkind, by rw [kge (by decide : (256 : Int32) = nI 256) (by decide) hk c4] at e2; exact e2⟩⟩) hP hD hS dX1_count_46
          · have hlt : k < 256 := klt (by decide : (256 : Int32) = nI 256) (by omega) c4
            refine lv_iload_n hx hb dX1_count_26 rfl (lv_at hl 2 rfl) ?_
            refine lv_aload_n hx hb dX1_count_27 rfl (lv_at hl 0 rfl) ?_
            refine gX1_kd hx hb hts hown hK hP dX1_count_28 ?_
            refine lv_iload_n hx hb dX1_count_31 rfl (lv_at hl 3 rfl) ?_
            refine lX1_kd hx hb hK hP k rfl hlt dX1_count_32 ?_
            refine lv_iload_n hx hb dX1_count_33 rfl (lv_at hl 1 rfl) ?_
            refine lv_ishr hx hb dX1_count_34 ?_
            refine lv_iconst (v := 1) hx hb dX1_count_35 (by decide) ?_
            refine lv_iand hx hb dX1_count_36 ?_
            refine tope (y := (bI ((xP ν (Rl tg) kind) k))) (kd_v hKD hkind hlt) ?_
            refine lv_iadd hx hb dX1_count_37 ?_
            refine lv_istore_n (lv' := [(2, .int (x2 + (bI ((xP ν (Rl tg) kind) k)))), (0, .ref (ad 0)), (1, .int kind), (3, .int (nI k))]) hx hb dX1_count_38 rfl hl (by decide) rfl (fun ls hl => ?_)
            refine lv_iinc (v := (nI (k + 1))) (lv' := [(3, .int (nI (k + 1))), (2, .int (x2 + (bI ((xP ν (Rl tg) kind) k)))), (0, .ref (ad 0)), (1, .int kind)]) hx hb dX1_count_39 hl (k := 3) rfl (nI_1 k) (by decide) rfl (fun ls hl => ?_)
            refine lv_goto (tgt := 19) hx hb dX1_count_42 (by decide) ?_
            exact ih19 (k + 1) (x2 + (bI ((xP ν (Rl tg) kind) k))) (by omega) (by omega) (cnt_add e2) H locs hP hD hS ls (lv_sub hl [2, 3, 1, 0] rfl)
      exact loop19 257 0 0 (by omega) (by omega) rfl H locs hP hD hS ls (lv_sub hl [2, 3, 1, 0] rfl)
    · refine lv_iconst (v := (-1)) hx hb dX1_count_9 (by decide) ?_
      exact greti hx hb hr hlocks (ac, re, un, ch, fa, fr, fu, fg, ft, se, kd, rg) (by exact ⟨hse, Or.inl ⟨kindP_no c2, rfl⟩⟩) hP hD hS dX1_count_10

abbrev rm_X1_extension : Room := { frames := 4, cells := 0, slots := 0, locals := 93 }
set_option maxHeartbeats 4000000 in
set_option maxRecDepth 100000 in
theorem metX1_extension (l : Launch) (dC : Nat → ClassId) (dI : Nat → Nat → Nat) (cI cB : ClassId) (ad : Nat → Nat) (sz : Nat) (n : Int32) (ev : Int32) (at_ : Nat → Int32) (tg : Nat → Int32) (ac : Int32) (re : Int32) (un : Int32) (ch : Int32) (fa : Nat → Int32) (fr : Nat → Int32) (fu : Nat → Int32) (fg : Nat → Int32) (ft : Nat → Int32) (se : Int32) (kd : Nat → Int32) (rg : Nat → Int32) (ν : Nat) (kind : Int32) (q : Int32) (hn : n = nI ν) (hev : ev = nI (allN ν)) (hF : FW ν at_ tg) (hse : ¬ se = 0 → KD ν (Rl tg) kd) : Met l yX1_extension (ws_ yX1_extension cX1_extension 5 (some .int)) rm_X1_extension (gP (dC, dI) (tyL cI cB) (wL cI cB ad n ev at_ tg ac re un ch fa fr fu fg ft se kd rg) sz [.ref (ad 0), .int kind, .int q]) (gQi (dC, dI) (fun (r : Int32) (u : Int32 × Int32 × Int32 × Int32 × (Nat → Int32) × (Nat → Int32) × (Nat → Int32) × (Nat → Int32) × (Nat → Int32) × Int32 × (Nat → Int32) × (Nat → Int32)) => x_ans ν (Rl tg) kind r (fun r => g_ext (xP ν (Rl tg) kind) 256 q r) u.2.2.2.2.2.2.2.2.2.1 u.2.2.2.2.2.2.2.2.2.2.1) (wL cI cB ad n ev at_ tg ac re un ch fa fr fu fg ft se kd rg) (fun u => wL cI cB ad n ev at_ tg u.1 u.2.1 u.2.2.1 u.2.2.2.1 u.2.2.2.2.1 u.2.2.2.2.2.1 u.2.2.2.2.2.2.1 u.2.2.2.2.2.2.2.1 u.2.2.2.2.2.2.2.2.1 u.2.2.2.2.2.2.2.2.2.1 u.2.2.2.2.2.2.2.2.2.2.1 u.2.2.2.2.2.2.2.2.2.2.2) sz) 0 0 (va_A (wL cI cB ad n ev at_ tg ac re un ch fa fr fu fg ft se kd rg) sz) := by
  refine gstart (own := RX1) (by decide) rfl (Nat.le_of_ble_eq_true rfl) ?_
  intro p e s m below meth c hx hb hr hlocks hml hown hts hsz hP hK hD hA hnm ls hl
  have hS : va_S (va_A (wL cI cB ad n ev at_ tg ac re un ch fa fr fu fg ft se kd rg) sz) s.heap s.heap [] := va_S.rf
  have hl : lv_has ls 5 [(0, .ref (ad 0)), (1, .int kind), (2, .int q)] := hl
  refine lv_iload_n hx hb dX1_extension_0 rfl (lv_at hl 1 rfl) ?_
  refine lv_if_lt (tgt := 9) hx hb dX1_extension_1 (by decide) (fun c1 => ?_) (fun c1 => ?_)
  · refine lv_iconst (v := (-1)) hx hb dX1_extension_9 (by decide) ?_
    exact greti hx hb hr hlocks (ac, re, un, ch, fa, fr, fu, fg, ft, se, kd, rg) (by exact ⟨hse, Or.inl ⟨fun h => h.1 c1, rfl⟩⟩) hP hD hS dX1_extension_10
  · refine lv_iload_n hx hb dX1_extension_4 rfl (lv_at hl 1 rfl) ?_
    refine lv_iconst (v := 3) hx hb dX1_extension_5 (by decide) ?_
    refine lv_icmp_le (tgt := 11) hx hb dX1_extension_6 (by decide) (fun c2 => ?_) (fun c2 => ?_)
    · refine lv_aload_n hx hb dX1_extension_11 rfl (lv_at hl 0 rfl) ?_
      refine gcallv (As := []) (rest := []) ⟨hx, hb, hml, hown, hts⟩ (metX1_search l dC dI cI cB ad s.heap.size n ev at_ tg ac re un ch fa fr fu fg ft se kd rg ν hn hev hF hse) (cw_X1_search hts ⟨Nat.le_of_ble_eq_true rfl, Nat.le_of_ble_eq_true rfl⟩) hK hP hD hS hA (ci := 0) (q0 := 0) rfl rfl hl.1 rfl (Nat.le_of_ble_eq_true rfl) dX1_extension_12 ⟨Nat.le_of_ble_eq_true rfl, Nat.le_of_ble_eq_true rfl⟩ (fun u H locs hKD hP hD hS => ?_)
      obtain ⟨acS, reS, unS, chS, faS, frS, fuS, fgS, ftS, seS, kdS, rgS⟩ := u
      have hP : va_P (dC, dI) cl2 (wL cI cB ad n ev at_ tg acS reS unS chS faS frS fuS fgS ftS seS kdS rgS) H := hP
      have hD : va_D (va_A (wL cI cB ad n ev at_ tg ac re un ch fa fr fu fg ft se kd rg) sz) (wL cI cB ad n ev at_ tg acS reS unS chS faS frS fuS fgS ftS seS kdS rgS) := hD
      dsimp only at hKD
      have hkind := kindP_in c1 c2
      refine lv_iload_n hx hb dX1_extension_15 rfl (lv_at hl 2 rfl) ?_
      refine lv_istore_n (lv' := [(3, .int q), (0, .ref (ad 0)), (1, .int kind), (2, .int q)]) hx hb dX1_extension_16 rfl hl (by decide) rfl (fun ls hl => ?_)
      refine lv_iconst (v := 0) hx hb dX1_extension_17 (by decide) ?_
      refine lv_istore (lv' := [(4, .int 0), (3, .int q), (0, .ref (ad 0)), (1, .int kind), (2, .int q)]) hx hb dX1_extension_18 hl (by decide) rfl (fun ls hl => ?_)
      have loop20 : ∀ (fl : Nat) (k : Nat) (x3 : Int32), k ≤ 256 → 256 < k + fl → x3 = q - nI (g_cnt (xP ν (Rl tg) kind) k) → (∀ j, j < k → (xP ν (Rl tg) kind) j → ¬ nI (g_cnt (xP ν (Rl tg) kind) j) = q) → ∀ (H : Heap) (locs : List Loc), va_P (dC, dI) cl2 (wL cI cB ad n ev at_ tg acS reS unS chS faS frS fuS fgS ftS seS kdS rgS) H → va_D (va_A (wL cI cB ad n ev at_ tg ac re un ch fa fr fu fg ft se kd rg) sz) (wL cI cB ad n ev at_ tg acS reS unS chS faS frS fuS fgS ftS seS kdS rgS) → va_S (va_A (wL cI cB ad n ev at_ tg ac re un ch fa fr fu fg ft se kd rg) sz) s.heap H locs → ∀ (ls : Array Slot), lv_has ls 5 [(0, .ref (ad 0)), (1, .int kind), (3, .int x3), (4, .int (nI k))] → W p l e rm_X1_extension s m ([.ref (ad 0), .int kind, .int q] : List Value).toArray below meth c H locs 0 0 (MQ below (gQi (dC, dI) (fun (r : Int32) (u : Int32 × Int32 × Int32 × Int32 × (Nat → Int32) × (Nat → Int32) × (Nat → Int32) × (Nat → Int32) × (Nat → Int32) × Int32 × (Nat → Int32) × (Nat → Int32)) => x_ans ν (Rl tg) kind r (fun r => g_ext (xP ν (Rl tg) kind) 256 q r) u.2.2.2.2.2.2.2.2.2.1 u.2.2.2.2.2.2.2.2.2.2.1) (wL cI cB ad n ev at_ tg ac re un ch fa fr fu fg ft se kd rg) (fun u => wL cI cB ad n ev at_ tg u.1 u.2.1 u.2.2.1 u.2.2.2.1 u.2.2.2.2.1 u.2.2.2.2.2.1 u.2.2.2.2.2.2.1 u.2.2.2.2.2.2.2.1 u.2.2.2.2.2.2.2.2.1 u.2.2.2.2.2.2.2.2.2.1 u.2.2.2.2.2.2.2.2.2.2.1 u.2.2.2.2.2.2.2.2.2.2.2) sz) ([.ref (ad 0), .int kind, .int q] : List Value).toArray s 0 0 (va_A (wL cI cB ad n ev at_ tg ac re un ch fa fr fu fg ft se kd rg) sz)) (F0 m 20 ls []) := by
        intro fl
        induction fl with
        | zero =>
          intro k x3 hk hf e3 hI
          exact absurd hf (by omega)
        | succ fl ih20 =>
          intro k x3 hk hf e3 hI H locs hP hD hS ls hl
          refine lv_iload hx hb dX1_extension_20 (lv_at hl 3 rfl) ?_
          refine lv_sipush (v := 256) hx hb dX1_extension_22 (by decide) ?_
          refine lv_icmp_ge (tgt := 61) hx hb dX1_extension_25 (by decide) (fun c4 => ?_) (fun c4 => ?_)
          · refine lv_bipush (v := (-2)) hx hb dX1_extension_61 (by decide) ?_
            exact greti hx hb hr hlocks (acS, reS, unS, chS, faS, frS, fuS, fgS, ftS, seS, kdS, rgS) (by exact ⟨fun _ => hKD, Or.inr ⟨hkind, Or.inr ⟨rfl, by have h := kge (by decide : (256 : Int32) = nI 256) (by decide) hk c4; rw [h] at hI; exact hI⟩⟩⟩) hP hD hS dX1_extension_63
          · have hlt : k < 256 := klt (by decide : (256 : Int32) = nI 256) (by omega) c4
            refine lv_aload_n hx hb dX1_extension_28 rfl (lv_at hl 0 rfl) ?_
            refine gX1_kd hx hb hts hown hK hP dX1_extension_29 ?_
            refine lv_iload hx hb dX1_extension_32 (lv_at hl 3 rfl) ?_
            refine lX1_kd hx hb hK hP k rfl hlt dX1_extension_34 ?_
            refine lv_iload_n hx hb dX1_extension_35 rfl (lv_at hl 1 rfl) ?_
            refine lv_ishr hx hb dX1_extension_36 ?_
            refine lv_iconst (v := 1) hx hb dX1_extension_37 (by decide) ?_
            refine lv_iand hx hb dX1_extension_38 ?_
            refine tope (y := (bI ((xP ν (Rl tg) kind) k))) (kd_v hKD hkind hlt) ?_
            refine lv_if_ne (tgt := 45) hx hb dX1_extension_39 (by decide) (fun c5 => ?_) (fun c5 => ?_)
            · refine lv_iload_n hx hb dX1_extension_45 rfl (lv_at hl 2 rfl) ?_
              refine lv_if_ne (tgt := 52) hx hb dX1_extension_46 (by decide) (fun c6 => ?_) (fun c6 => ?_)
              · refine lv_iinc (v := (x3 + (-1))) (lv' := [(3, .int (x3 + (-1))), (0, .ref (ad 0)), (1, .int kind), (4, .int (nI k))]) hx hb dX1_extension_52 hl (k := 2) rfl rfl (by decide) rfl (fun ls hl => ?_)
                refine lv_iinc (v := (nI (k + 1))) (lv' := [(4, .int (nI (k + 1))), (3, .int (x3 + (-1))), (0, .ref (ad 0)), (1, .int kind)]) hx hb dX1_extension_55 hl (k := 3) rfl (nI_1 k) (by decide) rfl (fun ls hl => ?_)
                refine lv_goto (tgt := 20) hx hb dX1_extension_58 (by decide) ?_
                exact ih20 (k + 1) (x3 + (-1)) (by omega) (by omega) (by rw [g_cnt, cIf_t (bI_n rfl c5), e3]; exact ext_s) (lt_s hI (fun _ => ext_n (by rw [← e3]; exact c6))) H locs hP hD hS ls (lv_sub hl [2, 3, 1, 0] rfl)
              · refine lv_iload hx hb dX1_extension_49 (lv_at hl 3 rfl) ?_
                exact greti hx hb hr hlocks (acS, reS, unS, chS, faS, frS, fuS, fgS, ftS, seS, kdS, rgS) (by exact ⟨fun _ => hKD, Or.inr ⟨hkind, Or.inl ⟨k, hlt, bI_n rfl c5, ext_0 (by rw [← e3]; exact c6), rfl⟩⟩⟩) hP hD hS dX1_extension_51
            · refine lv_goto (tgt := 55) hx hb dX1_extension_42 (by decide) ?_
              refine lv_iinc (v := (nI (k + 1))) (lv' := [(4, .int (nI (k + 1))), (0, .ref (ad 0)), (1, .int kind), (3, .int x3)]) hx hb dX1_extension_55 hl (k := 3) rfl (nI_1 k) (by decide) rfl (fun ls hl => ?_)
              refine lv_goto (tgt := 20) hx hb dX1_extension_58 (by decide) ?_
              exact ih20 (k + 1) x3 (by omega) (by omega) (by rw [g_cnt, cIf_f (bI_z rfl c5)]; exact e3) (lt_s hI (fun h => absurd h (bI_z rfl c5))) H locs hP hD hS ls (lv_sub hl [1, 2, 3, 0] rfl)
      exact loop20 257 0 q (by omega) (by omega) (by rw [g_cnt, nI_0]; exact (Int32.sub_zero q).symm) lt_0 H locs hP hD hS ls (lv_sub hl [2, 3, 1, 0] rfl)
    · refine lv_iconst (v := (-1)) hx hb dX1_extension_9 (by decide) ?_
      exact greti hx hb hr hlocks (ac, re, un, ch, fa, fr, fu, fg, ft, se, kd, rg) (by exact ⟨hse, Or.inl ⟨kindP_no c2, rfl⟩⟩) hP hD hS dX1_extension_10

abbrev rm_X1_inSome : Room := { frames := 4, cells := 0, slots := 0, locals := 93 }
set_option maxHeartbeats 4000000 in
set_option maxRecDepth 100000 in
theorem metX1_inSome (l : Launch) (dC : Nat → ClassId) (dI : Nat → Nat → Nat) (cI cB : ClassId) (ad : Nat → Nat) (sz : Nat) (n : Int32) (ev : Int32) (at_ : Nat → Int32) (tg : Nat → Int32) (ac : Int32) (re : Int32) (un : Int32) (ch : Int32) (fa : Nat → Int32) (fr : Nat → Int32) (fu : Nat → Int32) (fg : Nat → Int32) (ft : Nat → Int32) (se : Int32) (kd : Nat → Int32) (rg : Nat → Int32) (ν : Nat) (kind : Int32) (hn : n = nI ν) (hev : ev = nI (allN ν)) (hF : FW ν at_ tg) (hse : ¬ se = 0 → KD ν (Rl tg) kd) : Met l yX1_inSome (ws_ yX1_inSome cX1_inSome 4 (some .int)) rm_X1_inSome (gP (dC, dI) (tyL cI cB) (wL cI cB ad n ev at_ tg ac re un ch fa fr fu fg ft se kd rg) sz [.ref (ad 0), .int kind]) (gQi (dC, dI) (fun (r : Int32) (u : Int32 × Int32 × Int32 × Int32 × (Nat → Int32) × (Nat → Int32) × (Nat → Int32) × (Nat → Int32) × (Nat → Int32) × Int32 × (Nat → Int32) × (Nat → Int32)) => x_ans ν (Rl tg) kind r (fun r => r = g_or (xP ν (Rl tg) kind) 256) u.2.2.2.2.2.2.2.2.2.1 u.2.2.2.2.2.2.2.2.2.2.1) (wL cI cB ad n ev at_ tg ac re un ch fa fr fu fg ft se kd rg) (fun u => wL cI cB ad n ev at_ tg u.1 u.2.1 u.2.2.1 u.2.2.2.1 u.2.2.2.2.1 u.2.2.2.2.2.1 u.2.2.2.2.2.2.1 u.2.2.2.2.2.2.2.1 u.2.2.2.2.2.2.2.2.1 u.2.2.2.2.2.2.2.2.2.1 u.2.2.2.2.2.2.2.2.2.2.1 u.2.2.2.2.2.2.2.2.2.2.2) sz) 0 0 (va_A (wL cI cB ad n ev at_ tg ac re un ch fa fr fu fg ft se kd rg) sz) := by
  refine gstart (own := RX1) (by decide) rfl (Nat.le_of_ble_eq_true rfl) ?_
  intro p e s m below meth c hx hb hr hlocks hml hown hts hsz hP hK hD hA hnm ls hl
  have hS : va_S (va_A (wL cI cB ad n ev at_ tg ac re un ch fa fr fu fg ft se kd rg) sz) s.heap s.heap [] := va_S.rf
  have hl : lv_has ls 4 [(0, .ref (ad 0)), (1, .int kind)] := hl
  refine lv_iload_n hx hb dX1_inSome_0 rfl (lv_at hl 1 rfl) ?_
  refine lv_if_lt (tgt := 9) hx hb dX1_inSome_1 (by decide) (fun c1 => ?_) (fun c1 => ?_)
  · refine lv_iconst (v := (-1)) hx hb dX1_inSome_9 (by decide) ?_
    exact greti hx hb hr hlocks (ac, re, un, ch, fa, fr, fu, fg, ft, se, kd, rg) (by exact ⟨hse, Or.inl ⟨fun h => h.1 c1, rfl⟩⟩) hP hD hS dX1_inSome_10
  · refine lv_iload_n hx hb dX1_inSome_4 rfl (lv_at hl 1 rfl) ?_
    refine lv_iconst (v := 3) hx hb dX1_inSome_5 (by decide) ?_
    refine lv_icmp_le (tgt := 11) hx hb dX1_inSome_6 (by decide) (fun c2 => ?_) (fun c2 => ?_)
    · refine lv_aload_n hx hb dX1_inSome_11 rfl (lv_at hl 0 rfl) ?_
      refine gcallv (As := []) (rest := []) ⟨hx, hb, hml, hown, hts⟩ (metX1_search l dC dI cI cB ad s.heap.size n ev at_ tg ac re un ch fa fr fu fg ft se kd rg ν hn hev hF hse) (cw_X1_search hts ⟨Nat.le_of_ble_eq_true rfl, Nat.le_of_ble_eq_true rfl⟩) hK hP hD hS hA (ci := 0) (q0 := 0) rfl rfl hl.1 rfl (Nat.le_of_ble_eq_true rfl) dX1_inSome_12 ⟨Nat.le_of_ble_eq_true rfl, Nat.le_of_ble_eq_true rfl⟩ (fun u H locs hKD hP hD hS => ?_)
      obtain ⟨acS, reS, unS, chS, faS, frS, fuS, fgS, ftS, seS, kdS, rgS⟩ := u
      have hP : va_P (dC, dI) cl2 (wL cI cB ad n ev at_ tg acS reS unS chS faS frS fuS fgS ftS seS kdS rgS) H := hP
      have hD : va_D (va_A (wL cI cB ad n ev at_ tg ac re un ch fa fr fu fg ft se kd rg) sz) (wL cI cB ad n ev at_ tg acS reS unS chS faS frS fuS fgS ftS seS kdS rgS) := hD
      dsimp only at hKD
      have hkind := kindP_in c1 c2
      refine lv_iconst (v := 0) hx hb dX1_inSome_15 (by decide) ?_
      refine lv_istore_n (lv' := [(2, .int 0), (0, .ref (ad 0)), (1, .int kind)]) hx hb dX1_inSome_16 rfl hl (by decide) rfl (fun ls hl => ?_)
      refine lv_iconst (v := 0) hx hb dX1_inSome_17 (by decide) ?_
      refine lv_istore_n (lv' := [(3, .int 0), (2, .int 0), (0, .ref (ad 0)), (1, .int kind)]) hx hb dX1_inSome_18 rfl hl (by decide) rfl (fun ls hl => ?_)
      have loop19 : ∀ (fl : Nat) (k : Nat) (x2 : Int32), k ≤ 256 → 256 < k + fl → x2 = g_or (xP ν (Rl tg) kind) k → ∀ (H : Heap) (locs : List Loc), va_P (dC, dI) cl2 (wL cI cB ad n ev at_ tg acS reS unS chS faS frS fuS fgS ftS seS kdS rgS) H → va_D (va_A (wL cI cB ad n ev at_ tg ac re un ch fa fr fu fg ft se kd rg) sz) (wL cI cB ad n ev at_ tg acS reS unS chS faS frS fuS fgS ftS seS kdS rgS) → va_S (va_A (wL cI cB ad n ev at_ tg ac re un ch fa fr fu fg ft se kd rg) sz) s.heap H locs → ∀ (ls : Array Slot), lv_has ls 4 [(0, .ref (ad 0)), (1, .int kind), (2, .int x2), (3, .int (nI k))] → W p l e rm_X1_inSome s m ([.ref (ad 0), .int kind] : List Value).toArray below meth c H locs 0 0 (MQ below (gQi (dC, dI) (fun (r : Int32) (u : Int32 × Int32 × Int32 × Int32 × (Nat → Int32) × (Nat → Int32) × (Nat → Int32) × (Nat → Int32) × (Nat → Int32) × Int32 × (Nat → Int32) × (Nat → Int32)) => x_ans ν (Rl tg) kind r (fun r => r = g_or (xP ν (Rl tg) kind) 256) u.2.2.2.2.2.2.2.2.2.1 u.2.2.2.2.2.2.2.2.2.2.1) (wL cI cB ad n ev at_ tg ac re un ch fa fr fu fg ft se kd rg) (fun u => wL cI cB ad n ev at_ tg u.1 u.2.1 u.2.2.1 u.2.2.2.1 u.2.2.2.2.1 u.2.2.2.2.2.1 u.2.2.2.2.2.2.1 u.2.2.2.2.2.2.2.1 u.2.2.2.2.2.2.2.2.1 u.2.2.2.2.2.2.2.2.2.1 u.2.2.2.2.2.2.2.2.2.2.1 u.2.2.2.2.2.2.2.2.2.2.2) sz) ([.ref (ad 0), .int kind] : List Value).toArray s 0 0 (va_A (wL cI cB ad n ev at_ tg ac re un ch fa fr fu fg ft se kd rg) sz)) (F0 m 19 ls []) := by
        intro fl
        induction fl with
        | zero =>
          intro k x2 hk hf e2
          exact absurd hf (by omega)
        | succ fl ih19 =>
          intro k x2 hk hf e2 H locs hP hD hS ls hl
          refine lv_iload_n hx hb dX1_inSome_19 rfl (lv_at hl 3 rfl) ?_
          refine lv_sipush (v := 256) hx hb dX1_inSome_20 (by decide) ?_
          refine lv_icmp_ge (tgt := 49) hx hb dX1_inSome_23 (by decide) (fun c4 => ?_) (fun c4 => ?_)
          · refine lv_iload_n hx hb dX1_inSome_49 rfl (lv_at hl 2 rfl) ?_
            exact greti hx hb hr hlocks (acS, reS, unS, chS, faS, frS, fuS, fgS, ftS, seS, kdS, rgS) (by exact ⟨fun _ => hKD, Or.inr ⟨hkind, by rw [kge (by decide : (256 : Int32) = nI 256) (by decide) hk c4] at e2; exact e2⟩⟩) hP hD hS dX1_inSome_50
          · have hlt : k < 256 := klt (by decide : (256 : Int32) = nI 256) (by omega) c4
            refine lv_aload_n hx hb dX1_inSome_26 rfl (lv_at hl 0 rfl) ?_
            refine gX1_kd hx hb hts hown hK hP dX1_inSome_27 ?_
            refine lv_iload_n hx hb dX1_inSome_30 rfl (lv_at hl 3 rfl) ?_
            refine lX1_kd hx hb hK hP k rfl hlt dX1_inSome_31 ?_
            refine lv_iload_n hx hb dX1_inSome_32 rfl (lv_at hl 1 rfl) ?_
            refine lv_ishr hx hb dX1_inSome_33 ?_
            refine lv_iconst (v := 1) hx hb dX1_inSome_34 (by decide) ?_
            refine lv_iand hx hb dX1_inSome_35 ?_
            refine tope (y := (bI ((xP ν (Rl tg) kind) k))) (kd_v hKD hkind hlt) ?_
            refine lv_if_eq (tgt := 43) hx hb dX1_inSome_36 (by decide) (fun c5 => ?_) (fun c5 => ?_)
            · refine lv_iinc (v := (nI (k + 1))) (lv' := [(3, .int (nI (k + 1))), (0, .ref (ad 0)), (1, .int kind), (2, .int x2)]) hx hb dX1_inSome_43 hl (k := 3) rfl (nI_1 k) (by decide) rfl (fun ls hl => ?_)
              refine lv_goto (tgt := 19) hx hb dX1_inSome_46 (by decide) ?_
              exact ih19 (k + 1) x2 (by omega) (by omega) (by rw [g_or, cIf_f (bI_z rfl c5), e2]) H locs hP hD hS ls (lv_sub hl [1, 2, 3, 0] rfl)
            · refine lv_iload_n hx hb dX1_inSome_39 rfl (lv_at hl 2 rfl) ?_
              refine lv_iload_n hx hb dX1_inSome_40 rfl (lv_at hl 3 rfl) ?_
              refine lv_ior hx hb dX1_inSome_41 ?_
              refine lv_istore_n (lv' := [(2, .int (x2 ||| (nI k))), (0, .ref (ad 0)), (1, .int kind), (3, .int (nI k))]) hx hb dX1_inSome_42 rfl hl (by decide) rfl (fun ls hl => ?_)
              refine lv_iinc (v := (nI (k + 1))) (lv' := [(3, .int (nI (k + 1))), (2, .int (x2 ||| (nI k))), (0, .ref (ad 0)), (1, .int kind)]) hx hb dX1_inSome_43 hl (k := 3) rfl (nI_1 k) (by decide) rfl (fun ls hl => ?_)
              refine lv_goto (tgt := 19) hx hb dX1_inSome_46 (by decide) ?_
              exact ih19 (k + 1) (x2 ||| (nI k)) (by omega) (by omega) (by rw [g_or, cIf_t (bI_n rfl c5), e2]) H locs hP hD hS ls (lv_sub hl [2, 3, 1, 0] rfl)
      exact loop19 257 0 0 (by omega) (by omega) rfl H locs hP hD hS ls (lv_sub hl [2, 3, 1, 0] rfl)
    · refine lv_iconst (v := (-1)) hx hb dX1_inSome_9 (by decide) ?_
      exact greti hx hb hr hlocks (ac, re, un, ch, fa, fr, fu, fg, ft, se, kd, rg) (by exact ⟨hse, Or.inl ⟨kindP_no c2, rfl⟩⟩) hP hD hS dX1_inSome_10

abbrev rm_X1_inEvery : Room := { frames := 4, cells := 0, slots := 0, locals := 93 }
set_option maxHeartbeats 4000000 in
set_option maxRecDepth 100000 in
theorem metX1_inEvery (l : Launch) (dC : Nat → ClassId) (dI : Nat → Nat → Nat) (cI cB : ClassId) (ad : Nat → Nat) (sz : Nat) (n : Int32) (ev : Int32) (at_ : Nat → Int32) (tg : Nat → Int32) (ac : Int32) (re : Int32) (un : Int32) (ch : Int32) (fa : Nat → Int32) (fr : Nat → Int32) (fu : Nat → Int32) (fg : Nat → Int32) (ft : Nat → Int32) (se : Int32) (kd : Nat → Int32) (rg : Nat → Int32) (ν : Nat) (kind : Int32) (hn : n = nI ν) (hev : ev = nI (allN ν)) (hF : FW ν at_ tg) (hse : ¬ se = 0 → KD ν (Rl tg) kd) : Met l yX1_inEvery (ws_ yX1_inEvery cX1_inEvery 4 (some .int)) rm_X1_inEvery (gP (dC, dI) (tyL cI cB) (wL cI cB ad n ev at_ tg ac re un ch fa fr fu fg ft se kd rg) sz [.ref (ad 0), .int kind]) (gQi (dC, dI) (fun (r : Int32) (u : Int32 × Int32 × Int32 × Int32 × (Nat → Int32) × (Nat → Int32) × (Nat → Int32) × (Nat → Int32) × (Nat → Int32) × Int32 × (Nat → Int32) × (Nat → Int32)) => x_ans ν (Rl tg) kind r (fun r => r = g_an (xP ν (Rl tg) kind) ev 256) u.2.2.2.2.2.2.2.2.2.1 u.2.2.2.2.2.2.2.2.2.2.1) (wL cI cB ad n ev at_ tg ac re un ch fa fr fu fg ft se kd rg) (fun u => wL cI cB ad n ev at_ tg u.1 u.2.1 u.2.2.1 u.2.2.2.1 u.2.2.2.2.1 u.2.2.2.2.2.1 u.2.2.2.2.2.2.1 u.2.2.2.2.2.2.2.1 u.2.2.2.2.2.2.2.2.1 u.2.2.2.2.2.2.2.2.2.1 u.2.2.2.2.2.2.2.2.2.2.1 u.2.2.2.2.2.2.2.2.2.2.2) sz) 0 0 (va_A (wL cI cB ad n ev at_ tg ac re un ch fa fr fu fg ft se kd rg) sz) := by
  refine gstart (own := RX1) (by decide) rfl (Nat.le_of_ble_eq_true rfl) ?_
  intro p e s m below meth c hx hb hr hlocks hml hown hts hsz hP hK hD hA hnm ls hl
  have hS : va_S (va_A (wL cI cB ad n ev at_ tg ac re un ch fa fr fu fg ft se kd rg) sz) s.heap s.heap [] := va_S.rf
  have hl : lv_has ls 4 [(0, .ref (ad 0)), (1, .int kind)] := hl
  refine lv_iload_n hx hb dX1_inEvery_0 rfl (lv_at hl 1 rfl) ?_
  refine lv_if_lt (tgt := 9) hx hb dX1_inEvery_1 (by decide) (fun c1 => ?_) (fun c1 => ?_)
  · refine lv_iconst (v := (-1)) hx hb dX1_inEvery_9 (by decide) ?_
    exact greti hx hb hr hlocks (ac, re, un, ch, fa, fr, fu, fg, ft, se, kd, rg) (by exact ⟨hse, Or.inl ⟨fun h => h.1 c1, rfl⟩⟩) hP hD hS dX1_inEvery_10
  · refine lv_iload_n hx hb dX1_inEvery_4 rfl (lv_at hl 1 rfl) ?_
    refine lv_iconst (v := 3) hx hb dX1_inEvery_5 (by decide) ?_
    refine lv_icmp_le (tgt := 11) hx hb dX1_inEvery_6 (by decide) (fun c2 => ?_) (fun c2 => ?_)
    · refine lv_aload_n hx hb dX1_inEvery_11 rfl (lv_at hl 0 rfl) ?_
      refine gcallv (As := []) (rest := []) ⟨hx, hb, hml, hown, hts⟩ (metX1_search l dC dI cI cB ad s.heap.size n ev at_ tg ac re un ch fa fr fu fg ft se kd rg ν hn hev hF hse) (cw_X1_search hts ⟨Nat.le_of_ble_eq_true rfl, Nat.le_of_ble_eq_true rfl⟩) hK hP hD hS hA (ci := 0) (q0 := 0) rfl rfl hl.1 rfl (Nat.le_of_ble_eq_true rfl) dX1_inEvery_12 ⟨Nat.le_of_ble_eq_true rfl, Nat.le_of_ble_eq_true rfl⟩ (fun u H locs hKD hP hD hS => ?_)
      obtain ⟨acS, reS, unS, chS, faS, frS, fuS, fgS, ftS, seS, kdS, rgS⟩ := u
      have hP : va_P (dC, dI) cl2 (wL cI cB ad n ev at_ tg acS reS unS chS faS frS fuS fgS ftS seS kdS rgS) H := hP
      have hD : va_D (va_A (wL cI cB ad n ev at_ tg ac re un ch fa fr fu fg ft se kd rg) sz) (wL cI cB ad n ev at_ tg acS reS unS chS faS frS fuS fgS ftS seS kdS rgS) := hD
      dsimp only at hKD
      have hkind := kindP_in c1 c2
      refine lv_aload_n hx hb dX1_inEvery_15 rfl (lv_at hl 0 rfl) ?_
      refine gX1_ev hx hb hts hown hK hP dX1_inEvery_16 ?_
      refine lv_istore_n (lv' := [(2, .int ev), (0, .ref (ad 0)), (1, .int kind)]) hx hb dX1_inEvery_19 rfl hl (by decide) rfl (fun ls hl => ?_)
      refine lv_iconst (v := 0) hx hb dX1_inEvery_20 (by decide) ?_
      refine lv_istore_n (lv' := [(3, .int 0), (2, .int ev), (0, .ref (ad 0)), (1, .int kind)]) hx hb dX1_inEvery_21 rfl hl (by decide) rfl (fun ls hl => ?_)
      have loop22 : ∀ (fl : Nat) (k : Nat) (x2 : Int32), k ≤ 256 → 256 < k + fl → x2 = g_an (xP ν (Rl tg) kind) ev k → ∀ (H : Heap) (locs : List Loc), va_P (dC, dI) cl2 (wL cI cB ad n ev at_ tg acS reS unS chS faS frS fuS fgS ftS seS kdS rgS) H → va_D (va_A (wL cI cB ad n ev at_ tg ac re un ch fa fr fu fg ft se kd rg) sz) (wL cI cB ad n ev at_ tg acS reS unS chS faS frS fuS fgS ftS seS kdS rgS) → va_S (va_A (wL cI cB ad n ev at_ tg ac re un ch fa fr fu fg ft se kd rg) sz) s.heap H locs → ∀ (ls : Array Slot), lv_has ls 4 [(0, .ref (ad 0)), (1, .int kind), (2, .int x2), (3, .int (nI k))] → W p l e rm_X1_inEvery s m ([.ref (ad 0), .int kind] : List Value).toArray below meth c H locs 0 0 (MQ below (gQi (dC, dI) (fun (r : Int32) (u : Int32 × Int32 × Int32 × Int32 × (Nat → Int32) × (Nat → Int32) × (Nat → Int32) × (Nat → Int32) × (Nat → Int32) × Int32 × (Nat → Int32) × (Nat → Int32)) => x_ans ν (Rl tg) kind r (fun r => r = g_an (xP ν (Rl tg) kind) ev 256) u.2.2.2.2.2.2.2.2.2.1 u.2.2.2.2.2.2.2.2.2.2.1) (wL cI cB ad n ev at_ tg ac re un ch fa fr fu fg ft se kd rg) (fun u => wL cI cB ad n ev at_ tg u.1 u.2.1 u.2.2.1 u.2.2.2.1 u.2.2.2.2.1 u.2.2.2.2.2.1 u.2.2.2.2.2.2.1 u.2.2.2.2.2.2.2.1 u.2.2.2.2.2.2.2.2.1 u.2.2.2.2.2.2.2.2.2.1 u.2.2.2.2.2.2.2.2.2.2.1 u.2.2.2.2.2.2.2.2.2.2.2) sz) ([.ref (ad 0), .int kind] : List Value).toArray s 0 0 (va_A (wL cI cB ad n ev at_ tg ac re un ch fa fr fu fg ft se kd rg) sz)) (F0 m 22 ls []) := by
        intro fl
        induction fl with
        | zero =>
          intro k x2 hk hf e2
          exact absurd hf (by omega)
        | succ fl ih22 =>
          intro k x2 hk hf e2 H locs hP hD hS ls hl
          refine lv_iload_n hx hb dX1_inEvery_22 rfl (lv_at hl 3 rfl) ?_
          refine lv_sipush (v := 256) hx hb dX1_inEvery_23 (by decide) ?_
          refine lv_icmp_ge (tgt := 52) hx hb dX1_inEvery_26 (by decide) (fun c4 => ?_) (fun c4 => ?_)
          · refine lv_iload_n hx hb dX1_inEvery_52 rfl (lv_at hl 2 rfl) ?_
            exact greti hx hb hr hlocks (acS, reS, unS, chS, faS, frS, fuS, fgS, ftS, seS, kdS, rgS) (by exact ⟨fun _ => hKD, Or.inr ⟨hkind, by rw [kge (by decide : (256 : Int32) = nI 256) (by decide) hk c4] at e2; exact e2⟩⟩) hP hD hS dX1_inEvery_53
          · have hlt : k < 256 := klt (by decide : (256 : Int32) = nI 256) (by omega) c4
            refine lv_aload_n hx hb dX1_inEvery_29 rfl (lv_at hl 0 rfl) ?_
            refine gX1_kd hx hb hts hown hK hP dX1_inEvery_30 ?_
            refine lv_iload_n hx hb dX1_inEvery_33 rfl (lv_at hl 3 rfl) ?_
            refine lX1_kd hx hb hK hP k rfl hlt dX1_inEvery_34 ?_
            refine lv_iload_n hx hb dX1_inEvery_35 rfl (lv_at hl 1 rfl) ?_
            refine lv_ishr hx hb dX1_inEvery_36 ?_
            refine lv_iconst (v := 1) hx hb dX1_inEvery_37 (by decide) ?_
            refine lv_iand hx hb dX1_inEvery_38 ?_
            refine tope (y := (bI ((xP ν (Rl tg) kind) k))) (kd_v hKD hkind hlt) ?_
            refine lv_if_eq (tgt := 46) hx hb dX1_inEvery_39 (by decide) (fun c5 => ?_) (fun c5 => ?_)
            · refine lv_iinc (v := (nI (k + 1))) (lv' := [(3, .int (nI (k + 1))), (0, .ref (ad 0)), (1, .int kind), (2, .int x2)]) hx hb dX1_inEvery_46 hl (k := 3) rfl (nI_1 k) (by decide) rfl (fun ls hl => ?_)
              refine lv_goto (tgt := 22) hx hb dX1_inEvery_49 (by decide) ?_
              exact ih22 (k + 1) x2 (by omega) (by omega) (by rw [g_an, cIf_f (bI_z rfl c5), e2]) H locs hP hD hS ls (lv_sub hl [1, 2, 3, 0] rfl)
            · refine lv_iload_n hx hb dX1_inEvery_42 rfl (lv_at hl 2 rfl) ?_
              refine lv_iload_n hx hb dX1_inEvery_43 rfl (lv_at hl 3 rfl) ?_
              refine lv_iand hx hb dX1_inEvery_44 ?_
              refine lv_istore_n (lv' := [(2, .int (x2 &&& (nI k))), (0, .ref (ad 0)), (1, .int kind), (3, .int (nI k))]) hx hb dX1_inEvery_45 rfl hl (by decide) rfl (fun ls hl => ?_)
              refine lv_iinc (v := (nI (k + 1))) (lv' := [(3, .int (nI (k + 1))), (2, .int (x2 &&& (nI k))), (0, .ref (ad 0)), (1, .int kind)]) hx hb dX1_inEvery_46 hl (k := 3) rfl (nI_1 k) (by decide) rfl (fun ls hl => ?_)
              refine lv_goto (tgt := 22) hx hb dX1_inEvery_49 (by decide) ?_
              exact ih22 (k + 1) (x2 &&& (nI k)) (by omega) (by omega) (by rw [g_an, cIf_t (bI_n rfl c5), e2]) H locs hP hD hS ls (lv_sub hl [2, 3, 1, 0] rfl)
      exact loop22 257 0 ev (by omega) (by omega) rfl H locs hP hD hS ls (lv_sub hl [2, 3, 1, 0] rfl)
    · refine lv_iconst (v := (-1)) hx hb dX1_inEvery_9 (by decide) ?_
      exact greti hx hb hr hlocks (ac, re, un, ch, fa, fr, fu, fg, ft, se, kd, rg) (by exact ⟨hse, Or.inl ⟨kindP_no c2, rfl⟩⟩) hP hD hS dX1_inEvery_10
end
section
/-! call by call: the two sides answer alike, and what binds them holds behind it -/
section CN
variable {P Q : Nat → Prop}
theorem g_cnt_congr : ∀ k, (∀ j, j < k → (P j ↔ Q j)) → g_cnt P k = g_cnt Q k := by
  intro k
  induction k with
  | zero => intro _; rfl
  | succ k ih =>
    intro h
    have hk := h k (by omega)
    rw [g_cnt, g_cnt, ih (fun j hj => h j (by omega)), propext hk]
theorem g_cnt_split (m : Nat) : ∀ k, g_cnt P (m + k) = g_cnt P m + g_cnt (fun b => P (m + b)) k := by
  intro k
  induction k with
  | zero => rfl
  | succ k ih =>
    rw [show m + (k + 1) = (m + k) + 1 by omega, g_cnt, g_cnt, ih]
    rcases Classical.em (P (m + k)) with q | q
    · rw [cIf_t q, cIf_t q]; omega
    · rw [cIf_f q, cIf_f q]
theorem g_cnt_stop {m : Nat} : ∀ k, (∀ j, m ≤ j → j < m + k → ¬ P j) → g_cnt P (m + k) = g_cnt P m := by
  intro k
  induction k with
  | zero => intro _; rfl
  | succ k ih =>
    intro h
    rw [show m + (k + 1) = (m + k) + 1 by omega, g_cnt, cIf_f (h (m + k) (by omega) (by omega))]
    exact ih (fun j h1 h2 => h j h1 (by omega))
theorem g_cnt_mono : ∀ {b a : Nat}, a ≤ b → g_cnt P a ≤ g_cnt P b := by
  intro b
  induction b with
  | zero => intro a h; rw [show a = 0 by omega]; exact Nat.le_refl _
  | succ b ih =>
    intro a h
    by_cases e : a = b + 1
    · rw [e]; exact Nat.le_refl _
    · have := ih (a := a) (by omega)
      rw [g_cnt]
      rcases Classical.em (P b) with q | q
      · rw [cIf_t q]; omega
      · rw [cIf_f q]; exact this
theorem g_or_congr : ∀ k, (∀ j, j < k → (P j ↔ Q j)) → g_or P k = g_or Q k := by
  intro k
  induction k with
  | zero => intro _; rfl
  | succ k ih =>
    intro h
    rw [g_or, g_or, ih (fun j hj => h j (by omega)), propext (h k (by omega))]
theorem g_or_stop {m : Nat} : ∀ k, (∀ j, m ≤ j → j < m + k → ¬ P j) → g_or P (m + k) = g_or P m := by
  intro k
  induction k with
  | zero => intro _; rfl
  | succ k ih =>
    intro h
    rw [show m + (k + 1) = (m + k) + 1 by omega, g_or, cIf_f (h (m + k) (by omega) (by omega))]
    exact ih (fun j h1 h2 => h j h1 (by omega))
theorem g_an_congr {a : Int32} : ∀ k, (∀ j, j < k → (P j ↔ Q j)) → g_an P a k = g_an Q a k := by
  intro k
  induction k with
  | zero => intro _; rfl
  | succ k ih =>
    intro h
    rw [g_an, g_an, ih (fun j hj => h j (by omega)), propext (h k (by omega))]
theorem g_an_stop {a : Int32} {m : Nat} : ∀ k, (∀ j, m ≤ j → j < m + k → ¬ P j) → g_an P a (m + k) = g_an P a m := by
  intro k
  induction k with
  | zero => intro _; rfl
  | succ k ih =>
    intro h
    rw [show m + (k + 1) = (m + k) + 1 by omega, g_an, cIf_f (h (m + k) (by omega) (by omega))]
    exact ih (fun j h1 h2 => h j h1 (by omega))
theorem g_ext_lt {M j j' : Nat} {k : Int32} (hM : M ≤ 256) (hj : j < j') (hj' : j' < M) (hp : P j) (h1 : nI (g_cnt P j) = k) (h2 : nI (g_cnt P j') = k) : False := by
  have a1 := g_cnt_le P j
  have a2 := g_cnt_le P j'
  rw [← h1, nI_eq (by omega) (by omega)] at h2
  have := g_cnt_mono (P := P) (show j + 1 ≤ j' by omega)
  rw [g_cnt, cIf_t hp] at this
  omega
theorem g_ext_one {M : Nat} {k r r' : Int32} (hM : M ≤ 256) (h : g_ext P M k r) (h' : g_ext P M k r') : r = r' := by
  rcases h with ⟨j, a1, a2, a3, rfl⟩ | ⟨rfl, a⟩
  · rcases h' with ⟨j', b1_, b2, b3, rfl⟩ | ⟨rfl, b⟩
    · rcases Nat.lt_trichotomy j j' with q | q | q
      · exact (g_ext_lt hM q b1_ a2 a3 b3).elim
      · rw [q]
      · exact (g_ext_lt hM q a1 b2 b3 a3).elim
    · exact absurd a3 (b j a1 a2)
  · rcases h' with ⟨j', b1_, b2, b3, rfl⟩ | ⟨rfl, b⟩
    · exact absurd b3 (a j' b1_ b2)
    · rfl
theorem g_ext_congr {M M' : Nat} {k r : Int32} (hMM : M' ≤ M) (h1 : ∀ j, j < M → (P j ↔ (j < M' ∧ Q j))) (h : g_ext P M k r) : g_ext Q M' k r := by
  have hc : ∀ j, j ≤ M' → g_cnt P j = g_cnt Q j := fun j hj => g_cnt_congr j (fun i hi => (h1 i (by omega)).trans ⟨fun z => z.2, fun z => ⟨by omega, z⟩⟩)
  rcases h with ⟨j, a1, a2, a3, a4⟩ | ⟨a1, a2⟩
  · have q := (h1 j a1).mp a2
    exact Or.inl ⟨j, q.1, q.2, by rw [← hc j (by omega)]; exact a3, a4⟩
  · exact Or.inr ⟨a1, fun j hj hq => by rw [← hc j (by omega)]; exact a2 j (by omega) ((h1 j (by omega)).mpr ⟨hj, hq⟩)⟩
end CN
section LL
variable {ν : Nat} {n ev al se r1 r2 a b kind q : Int32} {at_ tg kd th at' tg' th' : Nat → Int32} {se' : Int32}
/-- what binds the two objects between the calls -/
def LI (ν : Nat) (n ev : Int32) (at_ tg : Nat → Int32) (se : Int32) (kd : Nat → Int32) (n2 al : Int32) (th : Nat → Int32) : Prop :=
  n = nI ν ∧ ev = nI (allN ν) ∧ FW ν at_ tg ∧ (¬ se = 0 → KD ν (Rl tg) kd) ∧ n2 = nI ν ∧ al = nI (allN ν) ∧ TH (Rl tg) th
theorem ij {i j i' j' : Nat} (hi : i < 8) (hi' : i' < 8) (h : nI i = nI i') : i = i' := (nI_eq (by omega) (by omega)).mp h
theorem Rl_bit {i j : Nat} (hi : i < 8) (hj : j < 8) : ((tg i >>> (nI j &&& 31)) &&& 1) = 0 ↔ ¬ Rl tg i j := by
  rw [b_bit0 (by omega)]
  exact ⟨fun h q => (by rw [q.2] at h; cases h), fun h => bf fun q => h ⟨hi, q⟩⟩
theorem th_bit {i j : Nat} (hT : TH (Rl tg) th) (hi : i < 8) (hj : j < 8) : th (8 * i + j) = 0 ↔ ¬ Rl tg i j := by
  have := hT i j hi hj
  exact ⟨fun h q => (this.mpr q) h, fun h => Classical.byContradiction fun q => h (this.mp q)⟩
theorem bad_args {ν i j : Nat} {n : Int32} (hn : n = nI ν) (hv : ν ≤ 8) (hi : i < ν) (hj : j < ν) : argP n (nI i) ∧ argP n (nI j) := ⟨argP_in hn (by omega) hi, argP_in hn (by omega) hj⟩
theorem upd_bit {f : Nat → Int32} {i : Nat} {x : Int32} {c d : Nat} : bt (upd f i x c) d = if c = i then bt x d else bt (f c) d := by
  by_cases e : c = i
  · rw [if_pos e, e, pk_us]
  · rw [if_neg e, pk_un e]
theorem law_attack (h : LI ν n ev at_ tg se kd n al th) (h1 : x_atk ν n at_ tg se a b r1 (at', tg', se')) (h2 : m_atk ν n th a b r2 th') : r1 = r2 ∧ LI ν n ev at' tg' se' kd n al th' := by
  obtain ⟨e1, e2, hF, hK, e3, e4, hT⟩ := h
  obtain ⟨hv, hR, hat⟩ := id hF
  rcases h1 with ⟨x1, x2, x3⟩ | ⟨i, j, hi, hj, ea, eb, x⟩
  · rcases h2 with ⟨y1, y2, y3⟩ | ⟨i, j, hi, hj, ea, eb, -⟩
    · cases x3; subst y3
      exact ⟨x2.trans y2.symm, e1, e2, hF, hK, e3, e4, hT⟩
    · subst ea; subst eb
      exact absurd (bad_args e1 hv hi hj) x1
  · rcases h2 with ⟨y1, y2, y3⟩ | ⟨i', j', hi', hj', ea', eb', y⟩
    · subst ea; subst eb
      exact absurd (bad_args e1 hv hi hj) y1
    · subst ea; subst eb
      have := ij (j := 0) (j' := 0) (by omega) (by omega) ea'
      subst this
      have := ij (j := 0) (j' := 0) (by omega) (by omega) eb'
      subst this
      have hx := Rl_bit (tg := tg) (i := i) (j := j) (by omega) (by omega)
      have hy := th_bit hT (i := i) (j := j) (by omega) (by omega)
      rcases x with ⟨c1, x2, x3⟩ | ⟨c1, x2, x3⟩
      · rcases y with ⟨d1, y2, y3⟩ | ⟨d1, y2, y3⟩
        · cases x3; subst y3
          exact ⟨x2.trans y2.symm, e1, e2, hF, hK, e3, e4, hT⟩
        · exact absurd (hx.mpr (hy.mp d1)) c1
      · rcases y with ⟨d1, y2, y3⟩ | ⟨d1, y2, y3⟩
        · exact absurd (hy.mpr (hx.mp c1)) d1
        · cases x3; subst y3
          have key : ∀ c d, Rl (upd tg i (tg i ||| b1 (nI j))) c d ↔ Rl tg c d ∨ (c = i ∧ d = j) := by
            intro c d
            unfold Rl
            rw [upd_bit]
            by_cases e : c = i
            · subst e
              rw [if_pos rfl, b_orb1 (by omega)]
              exact ⟨fun z => z.2.elim (fun y => Or.inl ⟨z.1, y⟩) (fun y => Or.inr ⟨rfl, y⟩), fun z => z.elim (fun y => ⟨y.1, Or.inl y.2⟩) (fun y => ⟨by omega, Or.inr y.2⟩)⟩
            · rw [if_neg e]
              exact ⟨fun z => Or.inl z, fun z => z.elim id (fun y => absurd y.1 e)⟩
          refine ⟨x2.trans y2.symm, e1, e2, ⟨hv, fun c d z => ?_, fun d hd c => ?_⟩, fun z => absurd rfl z, e3, e4, fun c d hc hd => ?_⟩
          · rcases (key c d).mp z with z | ⟨rfl, rfl⟩
            · exact hR c d z
            · exact ⟨hi, hj⟩
          · rw [key, upd_bit]
            by_cases e : d = j
            · subst e
              rw [if_pos rfl, b_orb1 (by omega), hat d hd]
              exact ⟨fun z => z.elim Or.inl (fun y => Or.inr ⟨y, rfl⟩), fun z => z.elim Or.inl (fun y => Or.inr y.1)⟩
            · rw [if_neg e, hat d hd]
              exact ⟨Or.inl, fun z => z.elim id (fun y => absurd y.2 e)⟩
          · rw [key]
            by_cases e : 8 * c + d = 8 * i + j
            · have ec : c = i := by omega
              have ed : d = j := by omega
              subst ec; subst ed
              rw [pk_us]
              exact ⟨fun _ => Or.inr ⟨rfl, rfl⟩, fun _ => by decide⟩
            · rw [pk_un e, hT c d hc hd]
              exact ⟨Or.inl, fun z => z.elim id (fun y => absurd (by rw [y.1, y.2]) e)⟩
theorem law_withdraw (h : LI ν n ev at_ tg se kd n al th) (h1 : x_wdr ν n at_ tg se a b r1 (at', tg', se')) (h2 : m_wdr ν n th a b r2 th') : r1 = r2 ∧ LI ν n ev at' tg' se' kd n al th' := by
  obtain ⟨e1, e2, hF, hK, e3, e4, hT⟩ := h
  obtain ⟨hv, hR, hat⟩ := id hF
  rcases h1 with ⟨x1, x2, x3⟩ | ⟨i, j, hi, hj, ea, eb, x⟩
  · rcases h2 with ⟨y1, y2, y3⟩ | ⟨i, j, hi, hj, ea, eb, -⟩
    · cases x3; subst y3
      exact ⟨x2.trans y2.symm, e1, e2, hF, hK, e3, e4, hT⟩
    · subst ea; subst eb
      exact absurd (bad_args e1 hv hi hj) x1
  · rcases h2 with ⟨y1, y2, y3⟩ | ⟨i', j', hi', hj', ea', eb', y⟩
    · subst ea; subst eb
      exact absurd (bad_args e1 hv hi hj) y1
    · subst ea; subst eb
      have := ij (j := 0) (j' := 0) (by omega) (by omega) ea'
      subst this
      have := ij (j := 0) (j' := 0) (by omega) (by omega) eb'
      subst this
      have hx := Rl_bit (tg := tg) (i := i) (j := j) (by omega) (by omega)
      have hy := th_bit hT (i := i) (j := j) (by omega) (by omega)
      rcases x with ⟨c1, x2, x3⟩ | ⟨c1, x2, x3⟩
      · rcases y with ⟨d1, y2, y3⟩ | ⟨d1, y2, y3⟩
        · cases x3; subst y3
          exact ⟨x2.trans y2.symm, e1, e2, hF, hK, e3, e4, hT⟩
        · exact absurd (hy.mpr (hx.mp c1)) d1
      · rcases y with ⟨d1, y2, y3⟩ | ⟨d1, y2, y3⟩
        · exact absurd (hx.mpr (hy.mp d1)) c1
        · cases x3; subst y3
          have cut : ∀ {x : Int32} {k c : Nat}, k < 8 → (bt (x &&& (b1 (nI k) ^^^ (-1))) c = true ↔ bt x c = true ∧ ¬ c = k) := by
            intro x k c hk
            rw [b_andnot, b_b1 (by omega), Bool.and_eq_true]
            by_cases e : c = k
            · rw [decide_eq_true e]; simp [e]
            · rw [decide_eq_false e]; simp [e]
          have key : ∀ c d, Rl (upd tg i (tg i &&& (b1 (nI j) ^^^ (-1)))) c d ↔ Rl tg c d ∧ ¬ (c = i ∧ d = j) := by
            intro c d
            unfold Rl
            rw [upd_bit]
            by_cases e : c = i
            · subst e
              rw [if_pos rfl, cut (by omega)]
              exact ⟨fun z => ⟨⟨z.1, z.2.1⟩, fun y => z.2.2 y.2⟩, fun z => ⟨z.1.1, z.1.2, fun y => z.2 ⟨rfl, y⟩⟩⟩
            · rw [if_neg e]
              exact ⟨fun z => ⟨z, fun y => e y.1⟩, fun z => z.1⟩
          refine ⟨x2.trans y2.symm, e1, e2, ⟨hv, fun c d z => hR c d ((key c d).mp z).1, fun d hd c => ?_⟩, fun z => absurd rfl z, e3, e4, fun c d hc hd => ?_⟩
          · rw [key, upd_bit]
            by_cases e : d = j
            · subst e
              rw [if_pos rfl, cut (by omega), hat d hd]
              exact ⟨fun z => ⟨z.1, fun y => z.2 y.1⟩, fun z => ⟨z.1, fun y => z.2 ⟨y, rfl⟩⟩⟩
            · rw [if_neg e, hat d hd]
              exact ⟨fun z => ⟨z, fun y => e y.2⟩, fun z => z.1⟩
          · rw [key]
            by_cases e : 8 * c + d = 8 * i + j
            · have ec : c = i := by omega
              have ed : d = j := by omega
              subst ec; subst ed
              rw [pk_us]
              exact ⟨fun z => absurd rfl z, fun z => absurd ⟨rfl, rfl⟩ z.2⟩
            · rw [pk_un e, hT c d hc hd]
              exact ⟨fun z => ⟨z, fun y => e (by rw [y.1, y.2])⟩, fun z => z.1⟩
theorem law_attacks (h : LI ν n ev at_ tg se kd n al th) (h1 : x_ats ν n tg a b r1) (h2 : m_ats ν n th a b r2) : r1 = r2 := by
  obtain ⟨e1, e2, hF, hK, e3, e4, hT⟩ := h
  obtain ⟨hv, hR, hat⟩ := id hF
  rcases h1 with ⟨x1, x2⟩ | ⟨i, j, hi, hj, ea, eb, x⟩
  · rcases h2 with ⟨y1, y2⟩ | ⟨i, j, hi, hj, ea, eb, -⟩
    · exact x2.trans y2.symm
    · subst ea; subst eb
      exact absurd (bad_args e1 hv hi hj) x1
  · rcases h2 with ⟨y1, y2⟩ | ⟨i', j', hi', hj', ea', eb', y⟩
    · subst ea; subst eb
      exact absurd (bad_args e1 hv hi hj) y1
    · subst ea; subst eb
      have := ij (j := 0) (j' := 0) (by omega) (by omega) ea'
      subst this
      have := ij (j := 0) (j' := 0) (by omega) (by omega) eb'
      subst this
      rw [x, y]
      exact bI_iff (not_congr ((Rl_bit (by omega) (by omega)).trans (th_bit hT (by omega) (by omega)).symm))
theorem law_grounded (h : LI ν n ev at_ tg se kd n al th) (h1 : x_grd ν (Rl tg) r1) (h2 : m_grd th (allN ν) r2) : r1 = r2 := by
  obtain ⟨e1, e2, hF, hK, e3, e4, hT⟩ := h
  obtain ⟨hv, hR, hat⟩ := hF
  exact (m_grd_eq hv hR hT h1.1 h1.2.1 h1.2.2 h2).symm
theorem xm_iff (h : LI ν n ev at_ tg se kd n al th) (hk : kindP kind) (j : Nat) : xP ν (Rl tg) kind j ↔ (j < allN ν + 1 ∧ mP th (allN ν) kind j) := by
  obtain ⟨e1, e2, hF, hK, e3, e4, hT⟩ := h
  obtain ⟨hv, hR, hat⟩ := hF
  obtain ⟨κ, h1, rfl⟩ := kindP_of hk
  unfold xP mP
  rw [nI_clamp (by omega), m_is_iff hv hR hT h1]
/-- the four answers over kinds -/
theorem law_ans (h : LI ν n ev at_ tg se kd n al th) {Z Z2 : Int32 → Prop} (hZ : kindP kind → Z r1 → Z2 r2 → r1 = r2) {se' : Int32} {kd' : Nat → Int32} (h1 : x_ans ν (Rl tg) kind r1 Z se' kd') (h2 : (¬ kindP kind ∧ r2 = -1) ∨ (kindP kind ∧ Z2 r2)) : r1 = r2 ∧ LI ν n ev at_ tg se' kd' n al th := by
  refine ⟨?_, h.1, h.2.1, h.2.2.1, h1.1, h.2.2.2.2⟩
  rcases h1.2 with ⟨x1, x2⟩ | ⟨x1, x2⟩
  · rcases h2 with ⟨y1, y2⟩ | ⟨y1, y2⟩
    · exact x2.trans y2.symm
    · exact absurd y1 x1
  · rcases h2 with ⟨y1, y2⟩ | ⟨y1, y2⟩
    · exact absurd x1 y1
    · exact hZ x1 x2 y2
theorem law_count (h : LI ν n ev at_ tg se kd n al th) (hk : kindP kind) (h1 : r1 = nI (g_cnt (xP ν (Rl tg) kind) 256)) (h2 : r2 = nI (g_cnt (mP th (allN ν) kind) (allN ν + 1))) : r1 = r2 := by
  have hN := allN_lt ν h.2.2.1.1
  have x := xm_iff h hk
  rw [h1, h2, show 256 = (allN ν + 1) + (255 - allN ν) by omega, g_cnt_stop _ (fun j a _ q => by have := ((x j).mp q).1; omega), g_cnt_congr _ (fun j hj => (x j).trans ⟨fun z => z.2, fun z => ⟨hj, z⟩⟩)]
theorem law_some (h : LI ν n ev at_ tg se kd n al th) (hk : kindP kind) (h1 : r1 = g_or (xP ν (Rl tg) kind) 256) (h2 : r2 = g_or (mP th (allN ν) kind) (allN ν + 1)) : r1 = r2 := by
  have hN := allN_lt ν h.2.2.1.1
  have x := xm_iff h hk
  rw [h1, h2, show 256 = (allN ν + 1) + (255 - allN ν) by omega, g_or_stop _ (fun j a _ q => by have := ((x j).mp q).1; omega), g_or_congr _ (fun j hj => (x j).trans ⟨fun z => z.2, fun z => ⟨hj, z⟩⟩)]
theorem law_every (h : LI ν n ev at_ tg se kd n al th) (hk : kindP kind) (h1 : r1 = g_an (xP ν (Rl tg) kind) ev 256) (h2 : r2 = g_an (mP th (allN ν) kind) (nI (allN ν)) (allN ν + 1)) : r1 = r2 := by
  have hN := allN_lt ν h.2.2.1.1
  have x := xm_iff h hk
  rw [h1, h2, h.2.1, show 256 = (allN ν + 1) + (255 - allN ν) by omega, g_an_stop _ (fun j a _ q => by have := ((x j).mp q).1; omega), g_an_congr _ (fun j hj => (x j).trans ⟨fun z => z.2, fun z => ⟨hj, z⟩⟩)]
theorem law_ext (h : LI ν n ev at_ tg se kd n al th) (hk : kindP kind) (h1 : g_ext (xP ν (Rl tg) kind) 256 q r1) (h2 : g_ext (mP th (allN ν) kind) (allN ν + 1) q r2) : r1 = r2 := by
  have hN := allN_lt ν h.2.2.1.1
  exact g_ext_one (by omega) (g_ext_congr (by omega) (fun j _ => xm_iff h hk j) h1) h2
theorem row_cnt (t : Int32) : ∀ k, k ≤ 8 → x_row t k = nI (g_cnt (fun b => bt t b = true) k) := by
  intro k
  induction k with
  | zero => intro _; rfl
  | succ k ih =>
    intro hk
    rw [x_row, g_cnt, ih (by omega), b_bit (by omega)]
    cases e : bt t k with
    | true => rw [cIf_t rfl]; exact nI_1 _
    | false => rw [cIf_f (by decide)]; exact Int32.add_zero _
theorem sum_cnt (h : LI ν n ev at_ tg se kd n al th) : ∀ k, k ≤ ν → x_sum tg ν k = nI (g_cnt (fun j => ¬ th j = 0) (8 * k)) := by
  obtain ⟨e1, e2, hF, hK, e3, e4, hT⟩ := h
  obtain ⟨hv, hR, hat⟩ := hF
  intro k
  induction k with
  | zero => intro _; rfl
  | succ k ih =>
    intro hk
    rw [x_sum, ih (by omega), row_cnt _ ν hv, nI_add, show 8 * (k + 1) = 8 * k + 8 by omega, g_cnt_split]
    have e : g_cnt (fun b => bt (tg k) b = true) ν = g_cnt (fun b => ¬ th (8 * k + b) = 0) 8 := by
      have s : g_cnt (fun b => bt (tg k) b = true) (ν + (8 - ν)) = g_cnt (fun b => bt (tg k) b = true) ν := g_cnt_stop _ (fun j h1 _ q => by have := (hR k j ⟨by omega, q⟩).2; omega)
      rw [← s, show ν + (8 - ν) = 8 by omega]
      exact g_cnt_congr 8 (fun j hj => (Rl_tg k (by omega) j).trans (hT k j (by omega) hj).symm)
    rw [e]
theorem law_clear (h : LI ν n ev at_ tg se kd n al th) (h1 : x_clr ν at_ tg r1 (at', tg', se')) (h2 : r2 = nI (g_cnt (fun j => ¬ th j = 0) 64) ∧ ∀ j, j < 64 → th' j = 0) : r1 = r2 ∧ LI ν n ev at' tg' se' kd n al th' := by
  have hs := sum_cnt h ν (Nat.le_refl ν)
  obtain ⟨e1, e2, hF, hK, e3, e4, hT⟩ := h
  obtain ⟨hv, hR, hat⟩ := hF
  obtain ⟨x1, x2, x3, x4⟩ := h1
  dsimp only at x2 x3 x4
  have no : ∀ a b, ¬ Rl tg' a b := by
    intro a b q
    rcases Nat.lt_or_ge a ν with z | z
    · have := q.2
      rw [(x2 a z).2, b_0] at this
      cases this
    · have := q.2
      rw [(x3 a z).2] at this
      have := (hR a b ⟨q.1, this⟩).1
      omega
  refine ⟨?_, e1, e2, ⟨hv, fun a b q => absurd q (no a b), fun b hb a => ?_⟩, fun z => absurd x4 z, e3, e4, fun a b ha hb => ?_⟩
  · rw [x1, h2.1, hs]
    have := g_cnt_stop (P := fun j => ¬ th j = 0) (m := 8 * ν) (64 - 8 * ν) (fun j a1 a2 q => by
      have q2 : ¬ th (8 * (j / 8) + j % 8) = 0 := by rw [show 8 * (j / 8) + j % 8 = j by omega]; exact q
      have := (hR _ _ ((hT (j / 8) (j % 8) (by omega) (by omega)).mp q2)).1
      omega)
    rw [show 8 * ν + (64 - 8 * ν) = 64 by omega] at this
    rw [this]
  · refine ⟨fun q => ?_, fun q => absurd q (no a b)⟩
    rcases Nat.lt_or_ge b ν with z | z
    · rw [(x2 b z).1, b_0] at q; cases q
    · rw [(x3 b z).1] at q
      have := (hR a b ((hat b hb a).mp q)).2
      omega
  · exact ⟨fun q => absurd (h2.2 (8 * a + b) (by omega)) q, fun q => absurd q (no a b)⟩
/-- the numbers that the constructors make -/
def clN (a : Int32) : Int32 := if 2 ≤ a then (if a ≤ 8 then a else 8) else 2
theorem clN_of (a : Int32) : ∃ ν, 2 ≤ ν ∧ ν ≤ 8 ∧ clN a = nI ν := by
  unfold clN
  by_cases h1 : 2 ≤ a
  · rw [if_pos h1]
    by_cases h2 : a ≤ 8
    · rw [if_pos h2]
      obtain ⟨j, h3, h4⟩ := nI_of2 (x := a) (M := 8) (n := 8) (by decide) (by
        intro q
        have hx := Int32.lt_of_lt_of_le q (by decide : (0 : Int32) ≤ 2)
        exact Int32.lt_irrefl (Int32.lt_of_lt_of_le hx h1)) h2
      subst h4
      exact ⟨j, (nI_leI (a := 2) (by omega) (by omega)).mp h1, h3, rfl⟩
    · rw [if_neg h2]; exact ⟨8, by omega, by omega, by decide⟩
  · rw [if_neg h1]; exact ⟨2, by omega, by omega, by decide⟩
def evN (n : Int32) : Int32 := ((1 : Int32) <<< (n &&& 31)) - 1
theorem evN_of : ∀ ν, ν ≤ 8 → evN (nI ν) = nI (allN ν) := by decide +kernel
theorem LI_0 {ν : Nat} (hv : ν ≤ 8) {a : Int32} (h : clN a = nI ν) : LI ν (clN a) (evN (clN a)) (fun _ => 0) (fun _ => 0) 0 kd (clN a) (evN (clN a)) (fun _ => 0) := by
  rw [h, evN_of ν hv]
  have no : ∀ a b, ¬ Rl (fun _ => 0) a b := fun a b q => by have := q.2; rw [b_0] at this; cases this
  refine ⟨rfl, rfl, ⟨hv, fun a b q => absurd q (no a b), fun b hb a => ⟨fun q => ?_, fun q => absurd q (no a b)⟩⟩, fun z => absurd rfl z, rfl, rfl, fun a b _ _ => ⟨fun q => absurd rfl q, fun q => absurd q (no a b)⟩⟩
  rw [b_0] at q; cases q
end LL
end
section
/-! the constructors and cell -/
def adL (h0 a2 a3 a8 a9 a10 a11 a12 a14 a15 : Nat) : Nat → Nat := fun k => match k with
  | 0 => h0
  | 2 => a2
  | 3 => a3
  | 8 => a8
  | 9 => a9
  | 10 => a10
  | 11 => a11
  | 12 => a12
  | 14 => a14
  | _ => a15
def bdM (h0 a2 : Nat) : Nat → Nat := fun k => match k with
  | 0 => h0
  | _ => a2
theorem k_int {D : va_G} {cl : List vw_C} {tys : List (ClassId × FieldType)} {s : State} (h : va_K D cl tys s) (i j : Nat) {c d : ClassId} (hi : tys[i]? = some (c, .int)) (hj : tys[j]? = some (d, .int)) : c = d := by
  have h1 := va_nm_int (h.2 i _ hi).2
  have h2 := va_nm_int (h.2 j _ hj).2
  exact Option.some.inj (h1.symm.trans h2)
theorem k_byte {D : va_G} {cl : List vw_C} {tys : List (ClassId × FieldType)} {s : State} (h : va_K D cl tys s) (i j : Nat) {c d : ClassId} (hi : tys[i]? = some (c, .byte)) (hj : tys[j]? = some (d, .byte)) : c = d := by
  have h1 := va_nm_byte (h.2 i _ hi).2
  have h2 := va_nm_byte (h.2 j _ hj).2
  exact Option.some.inj (h1.symm.trans h2)
abbrev gQn {S : Type} (D : va_G) (post : S → Prop) (w : va_W) (w1 : S → va_W) (t1 : S → List (ClassId × FieldType)) (sz : Nat) : Array Value → State → Outcome → State → Prop := va_Qv post (fun u t => va_P D cl2 (w1 u) t.heap ∧ va_D (va_A w sz) (w1 u) ∧ va_K D cl2 (t1 u) t) (va_A w sz)
def w0L (h0 : Nat) : va_W := [(h0, .inr (0, [.int 0, .int 0, .null, .null, .int 0, .int 0, .int 0, .int 0, .null, .null, .null, .null, .null, .int 0, .null, .null]))]
def w0M (h0 : Nat) : va_W := [(h0, .inr (1, [.int 0, .int 0, .null]))]
abbrev rm_X1_init : Room := { frames := 1, cells := 9, slots := 573, locals := 20 }
set_option maxHeartbeats 4000000 in
set_option maxRecDepth 100000 in
theorem metX1_init (l : Launch) (dC : Nat → ClassId) (dI : Nat → Nat → Nat) (h0 sz : Nat) (a : Int32) : Met l yX1_init (ws_ yX1_init cX1_init 2 none) rm_X1_init (gP (dC, dI) [] (w0L h0) sz [.ref h0, .int a]) (gQn (dC, dI) (fun u : ClassId × ClassId × (Nat → Nat) => u.2.2 0 = h0) (w0L h0) (fun u => wL u.1 u.2.1 u.2.2 (clN a) (evN (clN a)) (fun _ => 0) (fun _ => 0) 0 0 0 0 (fun _ => 0) (fun _ => 0) (fun _ => 0) (fun _ => 0) (fun _ => 0) 0 (fun _ => 0) (fun _ => 0)) (fun u => tyL u.1 u.2.1) sz) 9 573 (va_A (w0L h0) sz) := by
  refine gstart (own := RX1) (by decide) rfl (Nat.le_of_ble_eq_true rfl) ?_
  intro p e s m below meth c hx hb hr hlocks hml hown hts hsz hP hK hD hA hnm ls hl
  have hS : va_S (va_A (w0L h0) sz) s.heap s.heap [] := va_S.rf
  have hin : meth.name = "<init>" := hnm
  have hl : lv_has ls 2 [(0, .ref h0), (1, .int a)] := hl
  refine lv_aload_n hx hb dX1_init_0 rfl (lv_at hl 0 rfl) ?_
  refine W.objInit hx hb hown (hts _ q26) (hts _ q27) (hts _ q28) rfl (by rw [hml]; exact hl.1) rfl dX1_init_1 (Nat.le_of_ble_eq_true rfl) (Nat.le_of_ble_eq_true rfl) ?_
  refine W.eq (g2 := F0 m 4 ls []) rfl ?_
  have hP : va_P (dC, dI) cl2 [(h0, .inr (0, [.int 0, .int 0, .null, .null, .int 0, .int 0, .int 0, .int 0, .null, .null, .null, .null, .null, .int 0, .null, .null]))] s.heap := hP
  have hD : va_D (va_A (w0L h0) sz) [(h0, .inr (0, [.int 0, .int 0, .null, .null, .int 0, .int 0, .int 0, .int 0, .null, .null, .null, .null, .null, .int 0, .null, .null]))] := hD
  have hK : va_K (dC, dI) cl2 [] s := hK
  refine lv_aload_n hx hb dX1_init_4 rfl (lv_at hl 0 rfl) ?_
  refine lv_bipush (v := 8) hx hb dX1_init_5 (by decide) ?_
  refine va_newa (atype := .int) (ty := .int) (a0 := (8, .inl (fun _ => 0))) hx hb (hts _ q78) rfl hK hP hD hS hA (fun _ => rfl) (by decide) (by decide) (by decide) (Nat.le_of_ble_eq_true rfl) (Nat.le_of_ble_eq_true rfl) dX1_init_7 (fun a2 c2 H hK hP hD hS => ?_)
  refine W.widen (k := 1) (n := 8) (Nat.le_of_ble_eq_true rfl) (Nat.le_of_ble_eq_true rfl) ?_
  have hK : va_K (dC, dI) cl2 [(c2, .int)] s := hK
  have hP : va_P (dC, dI) cl2 [(h0, .inr (0, [.int 0, .int 0, .null, .null, .int 0, .int 0, .int 0, .int 0, .null, .null, .null, .null, .null, .int 0, .null, .null])), (a2, .inl (c2, 8, .inl (fun _ => 0)))] H := hP
  have hD : va_D (va_A (w0L h0) sz) [(h0, .inr (0, [.int 0, .int 0, .null, .null, .int 0, .int 0, .int 0, .int 0, .null, .null, .null, .null, .null, .int 0, .null, .null])), (a2, .inl (c2, 8, .inl (fun _ => 0)))] := hD
  refine va_putF (D := (dC, dI)) (ci := 0) (v := .ref a2) (ty := .array .int) (C := RX1) (T := TX1) (N := 16) hx hb hts in_X1 tyX1 tyX1_ok nmX1 hown hK hP hD hS 0 rfl rfl 2 (by decide) (hts _ q31) (fun _ h9 => h9) rfl hin rfl (by decide +kernel) rfl rfl (Nat.le_of_ble_eq_true rfl) dX1_init_9 (fun H locs hP hD hS => ?_)
  have hP : va_P (dC, dI) cl2 [(h0, .inr (0, [.int 0, .int 0, .ref a2, .null, .int 0, .int 0, .int 0, .int 0, .null, .null, .null, .null, .null, .int 0, .null, .null])), (a2, .inl (c2, 8, .inl (fun _ => 0)))] H := hP
  have hD : va_D (va_A (w0L h0) sz) [(h0, .inr (0, [.int 0, .int 0, .ref a2, .null, .int 0, .int 0, .int 0, .int 0, .null, .null, .null, .null, .null, .int 0, .null, .null])), (a2, .inl (c2, 8, .inl (fun _ => 0)))] := hD
  refine lv_aload_n hx hb dX1_init_12 rfl (lv_at hl 0 rfl) ?_
  refine lv_bipush (v := 8) hx hb dX1_init_13 (by decide) ?_
  refine va_newa (atype := .int) (ty := .int) (a0 := (8, .inl (fun _ => 0))) hx hb (hts _ q78) rfl hK hP hD hS hA (fun _ => rfl) (by decide) (by decide) (by decide) (Nat.le_of_ble_eq_true rfl) (Nat.le_of_ble_eq_true rfl) dX1_init_15 (fun a3 c3 H hK hP hD hS => ?_)
  refine W.widen (k := 2) (n := 16) (Nat.le_of_ble_eq_true rfl) (Nat.le_of_ble_eq_true rfl) ?_
  have hK : va_K (dC, dI) cl2 [(c2, .int), (c3, .int)] s := hK
  obtain rfl := k_int hK 0 1 rfl rfl
  have hK : va_K (dC, dI) cl2 [(c2, .int)] s := hK.sub [0] rfl
  have hP : va_P (dC, dI) cl2 [(h0, .inr (0, [.int 0, .int 0, .ref a2, .null, .int 0, .int 0, .int 0, .int 0, .null, .null, .null, .null, .null, .int 0, .null, .null])), (a2, .inl (c2, 8, .inl (fun _ => 0))), (a3, .inl (c2, 8, .inl (fun _ => 0)))] H := hP
  have hD : va_D (va_A (w0L h0) sz) [(h0, .inr (0, [.int 0, .int 0, .ref a2, .null, .int 0, .int 0, .int 0, .int 0, .null, .null, .null, .null, .null, .int 0, .null, .null])), (a2, .inl (c2, 8, .inl (fun _ => 0))), (a3, .inl (c2, 8, .inl (fun _ => 0)))] := hD
  refine va_putF (D := (dC, dI)) (ci := 0) (v := .ref a3) (ty := .array .int) (C := RX1) (T := TX1) (N := 16) hx hb hts in_X1 tyX1 tyX1_ok nmX1 hown hK hP hD hS 0 rfl rfl 3 (by decide) (hts _ q32) (fun _ h9 => h9) rfl hin rfl (by decide +kernel) rfl rfl (Nat.le_of_ble_eq_true rfl) dX1_init_17 (fun H locs hP hD hS => ?_)
  have hP : va_P (dC, dI) cl2 [(h0, .inr (0, [.int 0, .int 0, .ref a2, .ref a3, .int 0, .int 0, .int 0, .int 0, .null, .null, .null, .null, .null, .int 0, .null, .null])), (a2, .inl (c2, 8, .inl (fun _ => 0))), (a3, .inl (c2, 8, .inl (fun _ => 0)))] H := hP
  have hD : va_D (va_A (w0L h0) sz) [(h0, .inr (0, [.int 0, .int 0, .ref a2, .ref a3, .int 0, .int 0, .int 0, .int 0, .null, .null, .null, .null, .null, .int 0, .null, .null])), (a2, .inl (c2, 8, .inl (fun _ => 0))), (a3, .inl (c2, 8, .inl (fun _ => 0)))] := hD
  refine lv_aload_n hx hb dX1_init_20 rfl (lv_at hl 0 rfl) ?_
  refine lv_bipush (v := 9) hx hb dX1_init_21 (by decide) ?_
  refine va_newa (atype := .int) (ty := .int) (a0 := (9, .inl (fun _ => 0))) hx hb (hts _ q78) rfl hK hP hD hS hA (fun _ => rfl) (by decide) (by decide) (by decide) (Nat.le_of_ble_eq_true rfl) (Nat.le_of_ble_eq_true rfl) dX1_init_23 (fun a8 c8 H hK hP hD hS => ?_)
  refine W.widen (k := 3) (n := 25) (Nat.le_of_ble_eq_true rfl) (Nat.le_of_ble_eq_true rfl) ?_
  have hK : va_K (dC, dI) cl2 [(c2, .int), (c8, .int)] s := hK
  obtain rfl := k_int hK 0 1 rfl rfl
  have hK : va_K (dC, dI) cl2 [(c2, .int)] s := hK.sub [0] rfl
  have hP : va_P (dC, dI) cl2 [(h0, .inr (0, [.int 0, .int 0, .ref a2, .ref a3, .int 0, .int 0, .int 0, .int 0, .null, .null, .null, .null, .null, .int 0, .null, .null])), (a2, .inl (c2, 8, .inl (fun _ => 0))), (a3, .inl (c2, 8, .inl (fun _ => 0))), (a8, .inl (c2, 9, .inl (fun _ => 0)))] H := hP
  have hD : va_D (va_A (w0L h0) sz) [(h0, .inr (0, [.int 0, .int 0, .ref a2, .ref a3, .int 0, .int 0, .int 0, .int 0, .null, .null, .null, .null, .null, .int 0, .null, .null])), (a2, .inl (c2, 8, .inl (fun _ => 0))), (a3, .inl (c2, 8, .inl (fun _ => 0))), (a8, .inl (c2, 9, .inl (fun _ => 0)))] := hD
  refine va_putF (D := (dC, dI)) (ci := 0) (v := .ref a8) (ty := .array .int) (C := RX1) (T := TX1) (N := 16) hx hb hts in_X1 tyX1 tyX1_ok nmX1 hown hK hP hD hS 0 rfl rfl 8 (by decide) (hts _ q37) (fun _ h9 => h9) rfl hin rfl (by decide +kernel) rfl rfl (Nat.le_of_ble_eq_true rfl) dX1_init_25 (fun H locs hP hD hS => ?_)
  have hP : va_P (dC, dI) cl2 [(h0, .inr (0, [.int 0, .int 0, .ref a2, .ref a3, .int 0, .int 0, .int 0, .int 0, .ref a8, .null, .null, .null, .null, .int 0, .null, .null])), (a2, .inl (c2, 8, .inl (fun _ => 0))), (a3, .inl (c2, 8, .inl (fun _ => 0))), (a8, .inl (c2, 9, .inl (fun _ => 0)))] H := hP
  have hD : va_D (va_A (w0L h0) sz) [(h0, .inr (0, [.int 0, .int 0, .ref a2, .ref a3, .int 0, .int 0, .int 0, .int 0, .ref a8, .null, .null, .null, .null, .int 0, .null, .null])), (a2, .inl (c2, 8, .inl (fun _ => 0))), (a3, .inl (c2, 8, .inl (fun _ => 0))), (a8, .inl (c2, 9, .inl (fun _ => 0)))] := hD
  refine lv_aload_n hx hb dX1_init_28 rfl (lv_at hl 0 rfl) ?_
  refine lv_bipush (v := 9) hx hb dX1_init_29 (by decide) ?_
  refine va_newa (atype := .int) (ty := .int) (a0 := (9, .inl (fun _ => 0))) hx hb (hts _ q78) rfl hK hP hD hS hA (fun _ => rfl) (by decide) (by decide) (by decide) (Nat.le_of_ble_eq_true rfl) (Nat.le_of_ble_eq_true rfl) dX1_init_31 (fun a9 c9 H hK hP hD hS => ?_)
  refine W.widen (k := 4) (n := 34) (Nat.le_of_ble_eq_true rfl) (Nat.le_of_ble_eq_true rfl) ?_
  have hK : va_K (dC, dI) cl2 [(c2, .int), (c9, .int)] s := hK
  obtain rfl := k_int hK 0 1 rfl rfl
  have hK : va_K (dC, dI) cl2 [(c2, .int)] s := hK.sub [0] rfl
  have hP : va_P (dC, dI) cl2 [(h0, .inr (0, [.int 0, .int 0, .ref a2, .ref a3, .int 0, .int 0, .int 0, .int 0, .ref a8, .null, .null, .null, .null, .int 0, .null, .null])), (a2, .inl (c2, 8, .inl (fun _ => 0))), (a3, .inl (c2, 8, .inl (fun _ => 0))), (a8, .inl (c2, 9, .inl (fun _ => 0))), (a9, .inl (c2, 9, .inl (fun _ => 0)))] H := hP
  have hD : va_D (va_A (w0L h0) sz) [(h0, .inr (0, [.int 0, .int 0, .ref a2, .ref a3, .int 0, .int 0, .int 0, .int 0, .ref a8, .null, .null, .null, .null, .int 0, .null, .null])), (a2, .inl (c2, 8, .inl (fun _ => 0))), (a3, .inl (c2, 8, .inl (fun _ => 0))), (a8, .inl (c2, 9, .inl (fun _ => 0))), (a9, .inl (c2, 9, .inl (fun _ => 0)))] := hD
  refine va_putF (D := (dC, dI)) (ci := 0) (v := .ref a9) (ty := .array .int) (C := RX1) (T := TX1) (N := 16) hx hb hts in_X1 tyX1 tyX1_ok nmX1 hown hK hP hD hS 0 rfl rfl 9 (by decide) (hts _ q38) (fun _ h9 => h9) rfl hin rfl (by decide +kernel) rfl rfl (Nat.le_of_ble_eq_true rfl) dX1_init_33 (fun H locs hP hD hS => ?_)
  have hP : va_P (dC, dI) cl2 [(h0, .inr (0, [.int 0, .int 0, .ref a2, .ref a3, .int 0, .int 0, .int 0, .int 0, .ref a8, .ref a9, .null, .null, .null, .int 0, .null, .null])), (a2, .inl (c2, 8, .inl (fun _ => 0))), (a3, .inl (c2, 8, .inl (fun _ => 0))), (a8, .inl (c2, 9, .inl (fun _ => 0))), (a9, .inl (c2, 9, .inl (fun _ => 0)))] H := hP
  have hD : va_D (va_A (w0L h0) sz) [(h0, .inr (0, [.int 0, .int 0, .ref a2, .ref a3, .int 0, .int 0, .int 0, .int 0, .ref a8, .ref a9, .null, .null, .null, .int 0, .null, .null])), (a2, .inl (c2, 8, .inl (fun _ => 0))), (a3, .inl (c2, 8, .inl (fun _ => 0))), (a8, .inl (c2, 9, .inl (fun _ => 0))), (a9, .inl (c2, 9, .inl (fun _ => 0)))] := hD
  refine lv_aload_n hx hb dX1_init_36 rfl (lv_at hl 0 rfl) ?_
  refine lv_bipush (v := 9) hx hb dX1_init_37 (by decide) ?_
  refine va_newa (atype := .int) (ty := .int) (a0 := (9, .inl (fun _ => 0))) hx hb (hts _ q78) rfl hK hP hD hS hA (fun _ => rfl) (by decide) (by decide) (by decide) (Nat.le_of_ble_eq_true rfl) (Nat.le_of_ble_eq_true rfl) dX1_init_39 (fun a10 c10 H hK hP hD hS => ?_)
  refine W.widen (k := 5) (n := 43) (Nat.le_of_ble_eq_true rfl) (Nat.le_of_ble_eq_true rfl) ?_
  have hK : va_K (dC, dI) cl2 [(c2, .int), (c10, .int)] s := hK
  obtain rfl := k_int hK 0 1 rfl rfl
  have hK : va_K (dC, dI) cl2 [(c2, .int)] s := hK.sub [0] rfl
  have hP : va_P (dC, dI) cl2 [(h0, .inr (0, [.int 0, .int 0, .ref a2, .ref a3, .int 0, .int 0, .int 0, .int 0, .ref a8, .ref a9, .null, .null, .null, .int 0, .null, .null])), (a2, .inl (c2, 8, .inl (fun _ => 0))), (a3, .inl (c2, 8, .inl (fun _ => 0))), (a8, .inl (c2, 9, .inl (fun _ => 0))), (a9, .inl (c2, 9, .inl (fun _ => 0))), (a10, .inl (c2, 9, .inl (fun _ => 0)))] H := hP
  have hD : va_D (va_A (w0L h0) sz) [(h0, .inr (0, [.int 0, .int 0, .ref a2, .ref a3, .int 0, .int 0, .int 0, .int 0, .ref a8, .ref a9, .null, .null, .null, .int 0, .null, .null])), (a2, .inl (c2, 8, .inl (fun _ => 0))), (a3, .inl (c2, 8, .inl (fun _ => 0))), (a8, .inl (c2, 9, .inl (fun _ => 0))), (a9, .inl (c2, 9, .inl (fun _ => 0))), (a10, .inl (c2, 9, .inl (fun _ => 0)))] := hD
  refine va_putF (D := (dC, dI)) (ci := 0) (v := .ref a10) (ty := .array .int) (C := RX1) (T := TX1) (N := 16) hx hb hts in_X1 tyX1 tyX1_ok nmX1 hown hK hP hD hS 0 rfl rfl 10 (by decide) (hts _ q39) (fun _ h9 => h9) rfl hin rfl (by decide +kernel) rfl rfl (Nat.le_of_ble_eq_true rfl) dX1_init_41 (fun H locs hP hD hS => ?_)
  have hP : va_P (dC, dI) cl2 [(h0, .inr (0, [.int 0, .int 0, .ref a2, .ref a3, .int 0, .int 0, .int 0, .int 0, .ref a8, .ref a9, .ref a10, .null, .null, .int 0, .null, .null])), (a2, .inl (c2, 8, .inl (fun _ => 0))), (a3, .inl (c2, 8, .inl (fun _ => 0))), (a8, .inl (c2, 9, .inl (fun _ => 0))), (a9, .inl (c2, 9, .inl (fun _ => 0))), (a10, .inl (c2, 9, .inl (fun _ => 0)))] H := hP
  have hD : va_D (va_A (w0L h0) sz) [(h0, .inr (0, [.int 0, .int 0, .ref a2, .ref a3, .int 0, .int 0, .int 0, .int 0, .ref a8, .ref a9, .ref a10, .null, .null, .int 0, .null, .null])), (a2, .inl (c2, 8, .inl (fun _ => 0))), (a3, .inl (c2, 8, .inl (fun _ => 0))), (a8, .inl (c2, 9, .inl (fun _ => 0))), (a9, .inl (c2, 9, .inl (fun _ => 0))), (a10, .inl (c2, 9, .inl (fun _ => 0)))] := hD
  refine lv_aload_n hx hb dX1_init_44 rfl (lv_at hl 0 rfl) ?_
  refine lv_bipush (v := 9) hx hb dX1_init_45 (by decide) ?_
  refine va_newa (atype := .byte) (ty := .byte) (a0 := (9, .inl (fun _ => 0))) hx hb (hts _ q79) rfl hK hP hD hS hA (fun _ => rfl) (by decide) (by decide) (by decide) (Nat.le_of_ble_eq_true rfl) (Nat.le_of_ble_eq_true rfl) dX1_init_47 (fun a11 c11 H hK hP hD hS => ?_)
  refine W.widen (k := 6) (n := 52) (Nat.le_of_ble_eq_true rfl) (Nat.le_of_ble_eq_true rfl) ?_
  have hK : va_K (dC, dI) cl2 [(c2, .int), (c11, .byte)] s := hK
  have hP : va_P (dC, dI) cl2 [(h0, .inr (0, [.int 0, .int 0, .ref a2, .ref a3, .int 0, .int 0, .int 0, .int 0, .ref a8, .ref a9, .ref a10, .null, .null, .int 0, .null, .null])), (a2, .inl (c2, 8, .inl (fun _ => 0))), (a3, .inl (c2, 8, .inl (fun _ => 0))), (a8, .inl (c2, 9, .inl (fun _ => 0))), (a9, .inl (c2, 9, .inl (fun _ => 0))), (a10, .inl (c2, 9, .inl (fun _ => 0))), (a11, .inl (c11, 9, .inl (fun _ => 0)))] H := hP
  have hD : va_D (va_A (w0L h0) sz) [(h0, .inr (0, [.int 0, .int 0, .ref a2, .ref a3, .int 0, .int 0, .int 0, .int 0, .ref a8, .ref a9, .ref a10, .null, .null, .int 0, .null, .null])), (a2, .inl (c2, 8, .inl (fun _ => 0))), (a3, .inl (c2, 8, .inl (fun _ => 0))), (a8, .inl (c2, 9, .inl (fun _ => 0))), (a9, .inl (c2, 9, .inl (fun _ => 0))), (a10, .inl (c2, 9, .inl (fun _ => 0))), (a11, .inl (c11, 9, .inl (fun _ => 0)))] := hD
  refine va_putF (D := (dC, dI)) (ci := 0) (v := .ref a11) (ty := .array .byte) (C := RX1) (T := TX1) (N := 16) hx hb hts in_X1 tyX1 tyX1_ok nmX1 hown hK hP hD hS 0 rfl rfl 11 (by decide) (hts _ q40) (fun _ h9 => h9) rfl hin rfl (by decide +kernel) rfl rfl (Nat.le_of_ble_eq_true rfl) dX1_init_49 (fun H locs hP hD hS => ?_)
  have hP : va_P (dC, dI) cl2 [(h0, .inr (0, [.int 0, .int 0, .ref a2, .ref a3, .int 0, .int 0, .int 0, .int 0, .ref a8, .ref a9, .ref a10, .ref a11, .null, .int 0, .null, .null])), (a2, .inl (c2, 8, .inl (fun _ => 0))), (a3, .inl (c2, 8, .inl (fun _ => 0))), (a8, .inl (c2, 9, .inl (fun _ => 0))), (a9, .inl (c2, 9, .inl (fun _ => 0))), (a10, .inl (c2, 9, .inl (fun _ => 0))), (a11, .inl (c11, 9, .inl (fun _ => 0)))] H := hP
  have hD : va_D (va_A (w0L h0) sz) [(h0, .inr (0, [.int 0, .int 0, .ref a2, .ref a3, .int 0, .int 0, .int 0, .int 0, .ref a8, .ref a9, .ref a10, .ref a11, .null, .int 0, .null, .null])), (a2, .inl (c2, 8, .inl (fun _ => 0))), (a3, .inl (c2, 8, .inl (fun _ => 0))), (a8, .inl (c2, 9, .inl (fun _ => 0))), (a9, .inl (c2, 9, .inl (fun _ => 0))), (a10, .inl (c2, 9, .inl (fun _ => 0))), (a11, .inl (c11, 9, .inl (fun _ => 0)))] := hD
  refine lv_aload_n hx hb dX1_init_52 rfl (lv_at hl 0 rfl) ?_
  refine lv_bipush (v := 9) hx hb dX1_init_53 (by decide) ?_
  refine va_newa (atype := .byte) (ty := .byte) (a0 := (9, .inl (fun _ => 0))) hx hb (hts _ q79) rfl hK hP hD hS hA (fun _ => rfl) (by decide) (by decide) (by decide) (Nat.le_of_ble_eq_true rfl) (Nat.le_of_ble_eq_true rfl) dX1_init_55 (fun a12 c12 H hK hP hD hS => ?_)
  refine W.widen (k := 7) (n := 61) (Nat.le_of_ble_eq_true rfl) (Nat.le_of_ble_eq_true rfl) ?_
  have hK : va_K (dC, dI) cl2 [(c2, .int), (c11, .byte), (c12, .byte)] s := hK
  obtain rfl := k_byte hK 1 2 rfl rfl
  have hK : va_K (dC, dI) cl2 [(c2, .int), (c11, .byte)] s := hK.sub [0, 1] rfl
  have hP : va_P (dC, dI) cl2 [(h0, .inr (0, [.int 0, .int 0, .ref a2, .ref a3, .int 0, .int 0, .int 0, .int 0, .ref a8, .ref a9, .ref a10, .ref a11, .null, .int 0, .null, .null])), (a2, .inl (c2, 8, .inl (fun _ => 0))), (a3, .inl (c2, 8, .inl (fun _ => 0))), (a8, .inl (c2, 9, .inl (fun _ => 0))), (a9, .inl (c2, 9, .inl (fun _ => 0))), (a10, .inl (c2, 9, .inl (fun _ => 0))), (a11, .inl (c11, 9, .inl (fun _ => 0))), (a12, .inl (c11, 9, .inl (fun _ => 0)))] H := hP
  have hD : va_D (va_A (w0L h0) sz) [(h0, .inr (0, [.int 0, .int 0, .ref a2, .ref a3, .int 0, .int 0, .int 0, .int 0, .ref a8, .ref a9, .ref a10, .ref a11, .null, .int 0, .null, .null])), (a2, .inl (c2, 8, .inl (fun _ => 0))), (a3, .inl (c2, 8, .inl (fun _ => 0))), (a8, .inl (c2, 9, .inl (fun _ => 0))), (a9, .inl (c2, 9, .inl (fun _ => 0))), (a10, .inl (c2, 9, .inl (fun _ => 0))), (a11, .inl (c11, 9, .inl (fun _ => 0))), (a12, .inl (c11, 9, .inl (fun _ => 0)))] := hD
  refine va_putF (D := (dC, dI)) (ci := 0) (v := .ref a12) (ty := .array .byte) (C := RX1) (T := TX1) (N := 16) hx hb hts in_X1 tyX1 tyX1_ok nmX1 hown hK hP hD hS 0 rfl rfl 12 (by decide) (hts _ q41) (fun _ h9 => h9) rfl hin rfl (by decide +kernel) rfl rfl (Nat.le_of_ble_eq_true rfl) dX1_init_57 (fun H locs hP hD hS => ?_)
  have hP : va_P (dC, dI) cl2 [(h0, .inr (0, [.int 0, .int 0, .ref a2, .ref a3, .int 0, .int 0, .int 0, .int 0, .ref a8, .ref a9, .ref a10, .ref a11, .ref a12, .int 0, .null, .null])), (a2, .inl (c2, 8, .inl (fun _ => 0))), (a3, .inl (c2, 8, .inl (fun _ => 0))), (a8, .inl (c2, 9, .inl (fun _ => 0))), (a9, .inl (c2, 9, .inl (fun _ => 0))), (a10, .inl (c2, 9, .inl (fun _ => 0))), (a11, .inl (c11, 9, .inl (fun _ => 0))), (a12, .inl (c11, 9, .inl (fun _ => 0)))] H := hP
  have hD : va_D (va_A (w0L h0) sz) [(h0, .inr (0, [.int 0, .int 0, .ref a2, .ref a3, .int 0, .int 0, .int 0, .int 0, .ref a8, .ref a9, .ref a10, .ref a11, .ref a12, .int 0, .null, .null])), (a2, .inl (c2, 8, .inl (fun _ => 0))), (a3, .inl (c2, 8, .inl (fun _ => 0))), (a8, .inl (c2, 9, .inl (fun _ => 0))), (a9, .inl (c2, 9, .inl (fun _ => 0))), (a10, .inl (c2, 9, .inl (fun _ => 0))), (a11, .inl (c11, 9, .inl (fun _ => 0))), (a12, .inl (c11, 9, .inl (fun _ => 0)))] := hD
  refine lv_aload_n hx hb dX1_init_60 rfl (lv_at hl 0 rfl) ?_
  refine lv_sipush (v := 256) hx hb dX1_init_61 (by decide) ?_
  refine va_newa (atype := .byte) (ty := .byte) (a0 := (256, .inl (fun _ => 0))) hx hb (hts _ q79) rfl hK hP hD hS hA (fun _ => rfl) (by decide) (by decide) (by decide) (Nat.le_of_ble_eq_true rfl) (Nat.le_of_ble_eq_true rfl) dX1_init_64 (fun a14 c14 H hK hP hD hS => ?_)
  refine W.widen (k := 8) (n := 317) (Nat.le_of_ble_eq_true rfl) (Nat.le_of_ble_eq_true rfl) ?_
  have hK : va_K (dC, dI) cl2 [(c2, .int), (c11, .byte), (c14, .byte)] s := hK
  obtain rfl := k_byte hK 1 2 rfl rfl
  have hK : va_K (dC, dI) cl2 [(c2, .int), (c11, .byte)] s := hK.sub [0, 1] rfl
  have hP : va_P (dC, dI) cl2 [(h0, .inr (0, [.int 0, .int 0, .ref a2, .ref a3, .int 0, .int 0, .int 0, .int 0, .ref a8, .ref a9, .ref a10, .ref a11, .ref a12, .int 0, .null, .null])), (a2, .inl (c2, 8, .inl (fun _ => 0))), (a3, .inl (c2, 8, .inl (fun _ => 0))), (a8, .inl (c2, 9, .inl (fun _ => 0))), (a9, .inl (c2, 9, .inl (fun _ => 0))), (a10, .inl (c2, 9, .inl (fun _ => 0))), (a11, .inl (c11, 9, .inl (fun _ => 0))), (a12, .inl (c11, 9, .inl (fun _ => 0))), (a14, .inl (c11, 256, .inl (fun _ => 0)))] H := hP
  have hD : va_D (va_A (w0L h0) sz) [(h0, .inr (0, [.int 0, .int 0, .ref a2, .ref a3, .int 0, .int 0, .int 0, .int 0, .ref a8, .ref a9, .ref a10, .ref a11, .ref a12, .int 0, .null, .null])), (a2, .inl (c2, 8, .inl (fun _ => 0))), (a3, .inl (c2, 8, .inl (fun _ => 0))), (a8, .inl (c2, 9, .inl (fun _ => 0))), (a9, .inl (c2, 9, .inl (fun _ => 0))), (a10, .inl (c2, 9, .inl (fun _ => 0))), (a11, .inl (c11, 9, .inl (fun _ => 0))), (a12, .inl (c11, 9, .inl (fun _ => 0))), (a14, .inl (c11, 256, .inl (fun _ => 0)))] := hD
  refine va_putF (D := (dC, dI)) (ci := 0) (v := .ref a14) (ty := .array .byte) (C := RX1) (T := TX1) (N := 16) hx hb hts in_X1 tyX1 tyX1_ok nmX1 hown hK hP hD hS 0 rfl rfl 14 (by decide) (hts _ q43) (fun _ h9 => h9) rfl hin rfl (by decide +kernel) rfl rfl (Nat.le_of_ble_eq_true rfl) dX1_init_66 (fun H locs hP hD hS => ?_)
  have hP : va_P (dC, dI) cl2 [(h0, .inr (0, [.int 0, .int 0, .ref a2, .ref a3, .int 0, .int 0, .int 0, .int 0, .ref a8, .ref a9, .ref a10, .ref a11, .ref a12, .int 0, .ref a14, .null])), (a2, .inl (c2, 8, .inl (fun _ => 0))), (a3, .inl (c2, 8, .inl (fun _ => 0))), (a8, .inl (c2, 9, .inl (fun _ => 0))), (a9, .inl (c2, 9, .inl (fun _ => 0))), (a10, .inl (c2, 9, .inl (fun _ => 0))), (a11, .inl (c11, 9, .inl (fun _ => 0))), (a12, .inl (c11, 9, .inl (fun _ => 0))), (a14, .inl (c11, 256, .inl (fun _ => 0)))] H := hP
  have hD : va_D (va_A (w0L h0) sz) [(h0, .inr (0, [.int 0, .int 0, .ref a2, .ref a3, .int 0, .int 0, .int 0, .int 0, .ref a8, .ref a9, .ref a10, .ref a11, .ref a12, .int 0, .ref a14, .null])), (a2, .inl (c2, 8, .inl (fun _ => 0))), (a3, .inl (c2, 8, .inl (fun _ => 0))), (a8, .inl (c2, 9, .inl (fun _ => 0))), (a9, .inl (c2, 9, .inl (fun _ => 0))), (a10, .inl (c2, 9, .inl (fun _ => 0))), (a11, .inl (c11, 9, .inl (fun _ => 0))), (a12, .inl (c11, 9, .inl (fun _ => 0))), (a14, .inl (c11, 256, .inl (fun _ => 0)))] := hD
  refine lv_aload_n hx hb dX1_init_69 rfl (lv_at hl 0 rfl) ?_
  refine lv_sipush (v := 256) hx hb dX1_init_70 (by decide) ?_
  refine va_newa (atype := .int) (ty := .int) (a0 := (256, .inl (fun _ => 0))) hx hb (hts _ q78) rfl hK hP hD hS hA (fun _ => rfl) (by decide) (by decide) (by decide) (Nat.le_of_ble_eq_true rfl) (Nat.le_of_ble_eq_true rfl) dX1_init_73 (fun a15 c15 H hK hP hD hS => ?_)
  refine W.widen (k := 9) (n := 573) (Nat.le_of_ble_eq_true rfl) (Nat.le_of_ble_eq_true rfl) ?_
  have hK : va_K (dC, dI) cl2 [(c2, .int), (c11, .byte), (c15, .int)] s := hK
  obtain rfl := k_int hK 0 2 rfl rfl
  have hK : va_K (dC, dI) cl2 [(c2, .int), (c11, .byte)] s := hK.sub [0, 1] rfl
  have hP : va_P (dC, dI) cl2 [(h0, .inr (0, [.int 0, .int 0, .ref a2, .ref a3, .int 0, .int 0, .int 0, .int 0, .ref a8, .ref a9, .ref a10, .ref a11, .ref a12, .int 0, .ref a14, .null])), (a2, .inl (c2, 8, .inl (fun _ => 0))), (a3, .inl (c2, 8, .inl (fun _ => 0))), (a8, .inl (c2, 9, .inl (fun _ => 0))), (a9, .inl (c2, 9, .inl (fun _ => 0))), (a10, .inl (c2, 9, .inl (fun _ => 0))), (a11, .inl (c11, 9, .inl (fun _ => 0))), (a12, .inl (c11, 9, .inl (fun _ => 0))), (a14, .inl (c11, 256, .inl (fun _ => 0))), (a15, .inl (c2, 256, .inl (fun _ => 0)))] H := hP
  have hD : va_D (va_A (w0L h0) sz) [(h0, .inr (0, [.int 0, .int 0, .ref a2, .ref a3, .int 0, .int 0, .int 0, .int 0, .ref a8, .ref a9, .ref a10, .ref a11, .ref a12, .int 0, .ref a14, .null])), (a2, .inl (c2, 8, .inl (fun _ => 0))), (a3, .inl (c2, 8, .inl (fun _ => 0))), (a8, .inl (c2, 9, .inl (fun _ => 0))), (a9, .inl (c2, 9, .inl (fun _ => 0))), (a10, .inl (c2, 9, .inl (fun _ => 0))), (a11, .inl (c11, 9, .inl (fun _ => 0))), (a12, .inl (c11, 9, .inl (fun _ => 0))), (a14, .inl (c11, 256, .inl (fun _ => 0))), (a15, .inl (c2, 256, .inl (fun _ => 0)))] := hD
  refine va_putF (D := (dC, dI)) (ci := 0) (v := .ref a15) (ty := .array .int) (C := RX1) (T := TX1) (N := 16) hx hb hts in_X1 tyX1 tyX1_ok nmX1 hown hK hP hD hS 0 rfl rfl 15 (by decide) (hts _ q44) (fun _ h9 => h9) rfl hin rfl (by decide +kernel) rfl rfl (Nat.le_of_ble_eq_true rfl) dX1_init_75 (fun H locs hP hD hS => ?_)
  have hP : va_P (dC, dI) cl2 [(h0, .inr (0, [.int 0, .int 0, .ref a2, .ref a3, .int 0, .int 0, .int 0, .int 0, .ref a8, .ref a9, .ref a10, .ref a11, .ref a12, .int 0, .ref a14, .ref a15])), (a2, .inl (c2, 8, .inl (fun _ => 0))), (a3, .inl (c2, 8, .inl (fun _ => 0))), (a8, .inl (c2, 9, .inl (fun _ => 0))), (a9, .inl (c2, 9, .inl (fun _ => 0))), (a10, .inl (c2, 9, .inl (fun _ => 0))), (a11, .inl (c11, 9, .inl (fun _ => 0))), (a12, .inl (c11, 9, .inl (fun _ => 0))), (a14, .inl (c11, 256, .inl (fun _ => 0))), (a15, .inl (c2, 256, .inl (fun _ => 0)))] H := hP
  have hD : va_D (va_A (w0L h0) sz) [(h0, .inr (0, [.int 0, .int 0, .ref a2, .ref a3, .int 0, .int 0, .int 0, .int 0, .ref a8, .ref a9, .ref a10, .ref a11, .ref a12, .int 0, .ref a14, .ref a15])), (a2, .inl (c2, 8, .inl (fun _ => 0))), (a3, .inl (c2, 8, .inl (fun _ => 0))), (a8, .inl (c2, 9, .inl (fun _ => 0))), (a9, .inl (c2, 9, .inl (fun _ => 0))), (a10, .inl (c2, 9, .inl (fun _ => 0))), (a11, .inl (c11, 9, .inl (fun _ => 0))), (a12, .inl (c11, 9, .inl (fun _ => 0))), (a14, .inl (c11, 256, .inl (fun _ => 0))), (a15, .inl (c2, 256, .inl (fun _ => 0)))] := hD
  obtain ⟨ad, e0, hP, hD⟩ : ∃ ad : Nat → Nat, ad 0 = h0 ∧ va_P (dC, dI) cl2 (wL c2 c11 ad 0 0 (fun _ => 0) (fun _ => 0) 0 0 0 0 (fun _ => 0) (fun _ => 0) (fun _ => 0) (fun _ => 0) (fun _ => 0) 0 (fun _ => 0) (fun _ => 0)) H ∧ va_D (va_A (w0L h0) sz) (wL c2 c11 ad 0 0 (fun _ => 0) (fun _ => 0) 0 0 0 0 (fun _ => 0) (fun _ => 0) (fun _ => 0) (fun _ => 0) (fun _ => 0) 0 (fun _ => 0) (fun _ => 0)) := ⟨adL h0 a2 a3 a8 a9 a10 a11 a12 a14 a15, rfl, hP, hD⟩
  have hl0 : lv_has ls 2 [(0, .ref (ad 0)), (1, .int a)] := by rw [e0]; exact hl
  have KJ : ∀ v : Int32, v = clN a → W p l e rm_X1_init s m ([.ref h0, .int a] : List Value).toArray below meth c H locs 9 573 (MQ below (gQn (dC, dI) (fun u : ClassId × ClassId × (Nat → Nat) => u.2.2 0 = h0) (w0L h0) (fun u => wL u.1 u.2.1 u.2.2 (clN a) (evN (clN a)) (fun _ => 0) (fun _ => 0) 0 0 0 0 (fun _ => 0) (fun _ => 0) (fun _ => 0) (fun _ => 0) (fun _ => 0) 0 (fun _ => 0) (fun _ => 0)) (fun u => tyL u.1 u.2.1) sz) ([.ref h0, .int a] : List Value).toArray s 9 573 (va_A (w0L h0) sz)) (F0 m 100 ls [.int v, .ref (ad 0)]) := by
    intro v ev
    subst ev
    refine pX1_n hx hb hts hown hK hP hD hS dX1_init_100 (fun H locs hP hD hS => ?_)
    refine lv_aload_n hx hb dX1_init_103 rfl (lv_at hl0 0 rfl) ?_
    refine lv_iconst (v := 1) hx hb dX1_init_104 (by decide) ?_
    refine lv_aload_n hx hb dX1_init_105 rfl (lv_at hl0 0 rfl) ?_
    refine gX1_n hx hb hts hown hK hP dX1_init_106 ?_
    refine lv_ishl hx hb dX1_init_109 ?_
    refine lv_iconst (v := 1) hx hb dX1_init_110 (by decide) ?_
    refine lv_isub hx hb dX1_init_111 ?_
    refine pX1_ev hx hb hts hown hK hP hD hS dX1_init_112 (fun H locs hP hD hS => ?_)
    exact W.vret hx hb hr (fun t ht hW => ⟨⟨(c2, c11, ad), rfl, e0, by rw [ht]; exact hP, hD, va_K.moved hW.alike hK⟩, hS.F ht⟩) hS.2.2 dX1_init_115 hlocks
  refine lv_aload_n hx hb dX1_init_78 rfl (lv_at hl 0 rfl) ?_
  refine lv_iload_n hx hb dX1_init_79 rfl (lv_at hl 1 rfl) ?_
  refine lv_iconst (v := 2) hx hb dX1_init_80 (by decide) ?_
  refine lv_icmp_ge (tgt := 88) hx hb dX1_init_81 (by decide) (fun c_1 => ?_) (fun c_1 => ?_)
  · refine lv_iload_n hx hb dX1_init_88 rfl (lv_at hl 1 rfl) ?_
    refine lv_bipush (v := 8) hx hb dX1_init_89 (by decide) ?_
    refine lv_icmp_le (tgt := 99) hx hb dX1_init_91 (by decide) (fun c_2 => ?_) (fun c_2 => ?_)
    · refine lv_iload_n hx hb dX1_init_99 rfl (lv_at hl 1 rfl) ?_
      refine W.eq (g2 := F0 m 100 ls [.int a, .ref (ad 0)]) (by rw [e0]) ?_
      exact KJ a (by rw [clN, if_pos c_1, if_pos c_2])
    · refine lv_bipush (v := 8) hx hb dX1_init_94 (by decide) ?_
      refine lv_goto (tgt := 100) hx hb dX1_init_96 (by decide) ?_
      refine W.eq (g2 := F0 m 100 ls [.int 8, .ref (ad 0)]) (by rw [e0]) ?_
      exact KJ 8 (by rw [clN, if_pos c_1, if_neg c_2])
  · refine lv_iconst (v := 2) hx hb dX1_init_84 (by decide) ?_
    refine lv_goto (tgt := 100) hx hb dX1_init_85 (by decide) ?_
    refine W.eq (g2 := F0 m 100 ls [.int 2, .ref (ad 0)]) (by rw [e0]) ?_
    exact KJ 2 (by rw [clN, if_neg c_1])
abbrev rm_X2_init : Room := { frames := 1, cells := 1, slots := 64, locals := 20 }
set_option maxHeartbeats 4000000 in
set_option maxRecDepth 100000 in
theorem metX2_init (l : Launch) (dC : Nat → ClassId) (dI : Nat → Nat → Nat) (h0 sz : Nat) (a : Int32) : Met l yX2_init (ws_ yX2_init cX2_init 2 none) rm_X2_init (gP (dC, dI) [] (w0M h0) sz [.ref h0, .int a]) (gQn (dC, dI) (fun u : ClassId × (Nat → Nat) => u.2 0 = h0) (w0M h0) (fun u => wM u.1 u.2 (clN a) (evN (clN a)) (fun _ => 0)) (fun u => tyM u.1) sz) 1 64 (va_A (w0M h0) sz) := by
  refine gstart (own := RX2) (by decide) rfl (Nat.le_of_ble_eq_true rfl) ?_
  intro p e s m below meth c hx hb hr hlocks hml hown hts hsz hP hK hD hA hnm ls hl
  have hS : va_S (va_A (w0M h0) sz) s.heap s.heap [] := va_S.rf
  have hin : meth.name = "<init>" := hnm
  have hl : lv_has ls 2 [(0, .ref h0), (1, .int a)] := hl
  refine lv_aload_n hx hb dX2_init_0 rfl (lv_at hl 0 rfl) ?_
  refine W.objInit hx hb hown (hts _ q156) (hts _ q27) (hts _ q28) rfl (by rw [hml]; exact hl.1) rfl dX2_init_1 (Nat.le_of_ble_eq_true rfl) (Nat.le_of_ble_eq_true rfl) ?_
  refine W.eq (g2 := F0 m 4 ls []) rfl ?_
  have hP : va_P (dC, dI) cl2 [(h0, .inr (1, [.int 0, .int 0, .null]))] s.heap := hP
  have hD : va_D (va_A (w0M h0) sz) [(h0, .inr (1, [.int 0, .int 0, .null]))] := hD
  have hK : va_K (dC, dI) cl2 [] s := hK
  refine lv_aload_n hx hb dX2_init_4 rfl (lv_at hl 0 rfl) ?_
  refine lv_bipush (v := 64) hx hb dX2_init_5 (by decide) ?_
  refine va_newa (atype := .boolean) (ty := .boolean) (a0 := (64, .inl (fun _ => 0))) hx hb (hts _ q167) rfl hK hP hD hS hA (fun _ => rfl) (by decide) (by decide) (by decide) (Nat.le_of_ble_eq_true rfl) (Nat.le_of_ble_eq_true rfl) dX2_init_7 (fun a2 c2 H hK hP hD hS => ?_)
  refine W.widen (k := 1) (n := 64) (Nat.le_of_ble_eq_true rfl) (Nat.le_of_ble_eq_true rfl) ?_
  have hK : va_K (dC, dI) cl2 [(c2, .boolean)] s := hK
  have hP : va_P (dC, dI) cl2 [(h0, .inr (1, [.int 0, .int 0, .null])), (a2, .inl (c2, 64, .inl (fun _ => 0)))] H := hP
  have hD : va_D (va_A (w0M h0) sz) [(h0, .inr (1, [.int 0, .int 0, .null])), (a2, .inl (c2, 64, .inl (fun _ => 0)))] := hD
  refine va_put (D := (dC, dI)) (ci := 1) (v := .ref a2) (ty := .array .boolean) (C := RX2) (T := TX2) (N := 3) hx hb hts in_X2 tyX2 tyX2_ok nmX2 hown hK hP hD hS 0 rfl rfl 2 (by decide) (hts _ q159) (fun _ h9 => h9) rfl (by decide +kernel) rfl rfl (Nat.le_of_ble_eq_true rfl) dX2_init_9 (fun H locs hP hD hS => ?_)
  have hP : va_P (dC, dI) cl2 [(h0, .inr (1, [.int 0, .int 0, .ref a2])), (a2, .inl (c2, 64, .inl (fun _ => 0)))] H := hP
  have hD : va_D (va_A (w0M h0) sz) [(h0, .inr (1, [.int 0, .int 0, .ref a2])), (a2, .inl (c2, 64, .inl (fun _ => 0)))] := hD
  obtain ⟨ad, e0, hP, hD⟩ : ∃ ad : Nat → Nat, ad 0 = h0 ∧ va_P (dC, dI) cl2 (wM c2 ad 0 0 (fun _ => 0)) H ∧ va_D (va_A (w0M h0) sz) (wM c2 ad 0 0 (fun _ => 0)) := ⟨bdM h0 a2, rfl, hP, hD⟩
  have hl0 : lv_has ls 2 [(0, .ref (ad 0)), (1, .int a)] := by rw [e0]; exact hl
  have KJ : ∀ v : Int32, v = clN a → W p l e rm_X2_init s m ([.ref h0, .int a] : List Value).toArray below meth c H locs 1 64 (MQ below (gQn (dC, dI) (fun u : ClassId × (Nat → Nat) => u.2 0 = h0) (w0M h0) (fun u => wM u.1 u.2 (clN a) (evN (clN a)) (fun _ => 0)) (fun u => tyM u.1) sz) ([.ref h0, .int a] : List Value).toArray s 1 64 (va_A (w0M h0) sz)) (F0 m 34 ls [.int v, .ref (ad 0)]) := by
    intro v ev
    subst ev
    refine pX2_n hx hb hts hown hK hP hD hS dX2_init_34 (fun H locs hP hD hS => ?_)
    refine lv_aload_n hx hb dX2_init_37 rfl (lv_at hl0 0 rfl) ?_
    refine lv_iconst (v := 1) hx hb dX2_init_38 (by decide) ?_
    refine lv_aload_n hx hb dX2_init_39 rfl (lv_at hl0 0 rfl) ?_
    refine gX2_n hx hb hts hown hK hP dX2_init_40 ?_
    refine lv_ishl hx hb dX2_init_43 ?_
    refine lv_iconst (v := 1) hx hb dX2_init_44 (by decide) ?_
    refine lv_isub hx hb dX2_init_45 ?_
    refine pX2_al hx hb hts hown hK hP hD hS dX2_init_46 (fun H locs hP hD hS => ?_)
    exact W.vret hx hb hr (fun t ht hW => ⟨⟨(c2, ad), rfl, e0, by rw [ht]; exact hP, hD, va_K.moved hW.alike hK⟩, hS.F ht⟩) hS.2.2 dX2_init_49 hlocks
  refine lv_aload_n hx hb dX2_init_12 rfl (lv_at hl 0 rfl) ?_
  refine lv_iload_n hx hb dX2_init_13 rfl (lv_at hl 1 rfl) ?_
  refine lv_iconst (v := 2) hx hb dX2_init_14 (by decide) ?_
  refine lv_icmp_ge (tgt := 22) hx hb dX2_init_15 (by decide) (fun c_1 => ?_) (fun c_1 => ?_)
  · refine lv_iload_n hx hb dX2_init_22 rfl (lv_at hl 1 rfl) ?_
    refine lv_bipush (v := 8) hx hb dX2_init_23 (by decide) ?_
    refine lv_icmp_le (tgt := 33) hx hb dX2_init_25 (by decide) (fun c_2 => ?_) (fun c_2 => ?_)
    · refine lv_iload_n hx hb dX2_init_33 rfl (lv_at hl 1 rfl) ?_
      refine W.eq (g2 := F0 m 34 ls [.int a, .ref (ad 0)]) (by rw [e0]) ?_
      exact KJ a (by rw [clN, if_pos c_1, if_pos c_2])
    · refine lv_bipush (v := 8) hx hb dX2_init_28 (by decide) ?_
      refine lv_goto (tgt := 34) hx hb dX2_init_30 (by decide) ?_
      refine W.eq (g2 := F0 m 34 ls [.int 8, .ref (ad 0)]) (by rw [e0]) ?_
      exact KJ 8 (by rw [clN, if_pos c_1, if_neg c_2])
  · refine lv_iconst (v := 2) hx hb dX2_init_18 (by decide) ?_
    refine lv_goto (tgt := 34) hx hb dX2_init_19 (by decide) ?_
    refine W.eq (g2 := F0 m 34 ls [.int 2, .ref (ad 0)]) (by rw [e0]) ?_
    exact KJ 2 (by rw [clN, if_neg c_1])
/-- script[0], or 0 -/
def cellV (L : Nat) (xs : Nat → Int32) : Int32 := if L = 0 then 0 else xs 0
abbrev rm_X0_cell : Room := { frames := 0, cells := 0, slots := 0, locals := 0 }
set_option maxHeartbeats 4000000 in
set_option maxRecDepth 100000 in
theorem metX0_cell (l : Launch) (b L sz : Nat) (xs : Nat → Int32) (hL : L < 2 ^ 31) : Met l yX0_cell (ws_ yX0_cell cX0_cell 2 (some .int)) rm_X0_cell (va_Pc [.ref b, .int 0] (fun U => U.heap.size = sz ∧ va_X b L xs U U.heap)) (va_Qi (fun (r : Int32) (_ : Unit) => r = cellV L xs) (fun _ _ => True) (va_A [] sz)) 0 0 (va_A [] sz) := by
  refine Met.ofW (cc := cX0_cell) (maxL := 2) (ret := some .int) (by decide) rfl ?_
  intro p e s m args below meth c s₁ B hml hv
  obtain ⟨rfl, hsz, hX⟩ := hv
  have hx := B.exec
  have hb := B.bytes
  have hr := B.returns
  have hlocks := B.notSynchronized
  subst hsz
  have hbl : b < s.heap.size := by
    obtain ⟨scr, h1, -⟩ := hX
    exact (Array.getElem?_eq_some_iff.mp h1).1
  have hbA : ¬ va_A [] s.heap.size b := fun h => by
    rcases h with ⟨k, e, h⟩ | h
    · cases h
    · exact absurd hbl (Nat.not_lt.mpr h)
  have hS : va_S (va_A [] s.heap.size) s.heap s.heap [] := va_S.rf
  have hl := lv_entry ([.ref b, .int 0]) (n := 2) (Nat.le_of_ble_eq_true rfl)
  rw [lg_entry_eq]
  generalize (lg_sl ([.ref b, .int 0]) ++ List.replicate (2 - (lg_sl ([.ref b, .int 0])).length) Slot.unset).toArray = ls at hl ⊢
  have hl : lv_has ls 2 [(0, .ref b), (1, .int 0)] := hl
  refine lv_iload_n hx hb dX0_cell_0 rfl (lv_at hl 1 rfl) ?_
  refine lv_aload_n hx hb dX0_cell_1 rfl (lv_at hl 0 rfl) ?_
  refine va_slen hx hb hX hbl hbA hS dX0_cell_2 ?_
  refine lv_icmp_ge (tgt := 12) hx hb dX0_cell_3 (by decide) (fun c_1 => ?_) (fun c_1 => ?_)
  · have h0 : L = 0 := (kge (k := 0) (N := L) rfl hL (Nat.zero_le L) c_1).symm
    refine lv_iconst (v := 0) hx hb dX0_cell_12 (by decide) ?_
    exact W.iret hx hb hr (fun t ht hW => ⟨⟨0, (), rfl, by rw [cellV, if_pos h0], trivial⟩, hS.F ht⟩) hS.2.2 dX0_cell_13 hlocks
  · have h0 : 0 < L := klt (k := 0) (N := L) rfl (by decide) c_1
    refine lv_aload_n hx hb dX0_cell_6 rfl (lv_at hl 0 rfl) ?_
    refine lv_iload_n hx hb dX0_cell_7 rfl (lv_at hl 1 rfl) ?_
    refine va_sld hx hb hX hbl hbA hS (vp_in_nI h0 hL) dX0_cell_8 ?_
    refine lv_goto (tgt := 13) hx hb dX0_cell_9 (by decide) ?_
    exact W.iret hx hb hr (fun t ht hW => ⟨⟨_, (), rfl, (by unfold cellV; exact (if_neg (by omega)).symm), trivial⟩, hS.F ht⟩) hS.2.2 dX0_cell_13 hlocks
end
section
/-! THE CLAIM OUT OF ONE WALK OF THE LAW'S BODY. Your part is whole_start (and what it stands on); all else here is the same for every law, but numbers. -/
def R_law : String := "ArgumentLabellerLaw"
def lw_P (b : Addr) (xs : List Int32) (args : Array Value) (s : State) : Prop := args = #[.ref b] ∧ s.IntsAt b xs ∧ xs.length ≤ 193 ∧ (Jvm.Cond.and given_1 narrow_1).before args s = true
def lw_Q (_ : Array Value) (s : State) (o : Outcome) (t : State) : Prop := o = .returned (some (.int 1)) ∧ Framed s o t [] 600000 7290000
def lw_Z (below : List Frame) (a : Array Value) (s : State) : State → Prop := fun t => ∃ o, t.status = .running ∧ Ended t below o ∧ lw_Q a s o t
/-- the law's own end, with 1 on the stack, nothing written that was there before, its room as the claim has it -/
theorem lw_ret {p : Program} {l : Launch} {e : Env} {s : State} {m : MethodId} {below : List Frame} {meth : Method} {c : Code} {b : Nat} (hx : p.tables.exec = Jvm.exec) (hb : c.code = code) (hr : meth.sig.returnType = ret) (hlocks : meth.locks = false) {pc : Nat} {H : Heap} {ls : Array Slot} (hdg : decode code pc = .ok (.ireturn, 1)) : W p l e room_1 s m #[Value.ref b] below meth c H [] 600000 7290000 (lw_Z below #[Value.ref b] s) (F0 m pc ls [.int 1]) := by
  intro T hT X
  obtain ⟨fs, hret, hrun, hended, hW, hframe⟩ := X.leave (v := some (.int 1)) (hlocks := hlocks) (fun h => by rw [hr] at h; cases h)
  have hmeth' : T.vm.method? m = some meth := X.method'
  refine ⟨T.setFrames fs, ?_, .returned (some (.int 1)), hrun, hended, rfl, ⟨_, rfl⟩, hW, hframe⟩
  jvm_step X.here [X.here.top, hx, hb, hdg, hmeth', hr, ret, narrow_b1]
  (try refine ⟨rfl, ?_⟩); (try refine ⟨rfl, ?_⟩)
  first | (intro acts; rw [hret _ acts rfl rfl rfl]) | rw [hret _ _ rfl rfl rfl]
  exact Steps.refl _
/-- what holds at the law's entry: the machine, the code, the tables' words (any of lw_tbl by 'hts w (by decide +kernel)'), the script of L ints xs at the cell b, what the Statement gives of the start (any of its parts by flat_of_before) -/
def lw_At (p : Program) (s : State) (m : MethodId) (meth : Method) (c : Code) (b L : Nat) (xs : Nat → Int32) : Prop :=
  p.tables.exec = Jvm.exec ∧ c.code = code ∧ meth.sig.returnType = ret ∧ c.maxLocals = 4 ∧ s.vm.findClass R_law = some m.cls ∧ (∀ w ∈ lw_tbl, w.before #[Value.ref b] s = true) ∧ va_X b L xs s s.heap ∧ b < s.heap.size ∧ meth.locks = false ∧ (Jvm.Cond.and given_1 narrow_1).before #[Value.ref b] s = true

/-- two worlds that share no cell -/
def apt (w v : va_W) : Prop := ∀ (i j : Nat) (p q : Nat × va_E), w[i]? = some p → v[j]? = some q → p.1 ≠ q.1
theorem apt.symm {w v : va_W} (h : apt w v) : apt v w := fun i j p q hp hq e => h j i q p hq hp e.symm
theorem ap_l {w v : va_W} {i : Nat} {q : Nat × va_E} (h : w[i]? = some q) : (w ++ v)[i]? = some q := by
  rw [List.getElem?_append_left (List.getElem?_eq_some_iff.mp h).1]; exact h
theorem ap_r {w v : va_W} {i : Nat} {q : Nat × va_E} (h : v[i]? = some q) : (w ++ v)[w.length + i]? = some q := by
  rw [List.getElem?_append_right (by omega), show w.length + i - w.length = i by omega]; exact h
theorem P_l {D : va_G} {cl : List vw_C} {w v : va_W} {H : Heap} (h : va_P D cl (w ++ v) H) : va_P D cl w H := fun k q hk => h k q (ap_l hk)
theorem P_r {D : va_G} {cl : List vw_C} {w v : va_W} {H : Heap} (h : va_P D cl (w ++ v) H) : va_P D cl v H := fun k q hk => h _ q (ap_r hk)
theorem D_l {A : Nat → Prop} {w v : va_W} (h : va_D A (w ++ v)) : va_D A w := ⟨fun i j p q hp hq e => h.1 i j p q (ap_l hp) (ap_l hq) e, fun k q hk => h.2 k q (ap_l hk)⟩
theorem D_r {A : Nat → Prop} {w v : va_W} (h : va_D A (w ++ v)) : va_D A v := ⟨fun i j p q hp hq e => by have := h.1 _ _ p q (ap_r hp) (ap_r hq) e; omega, fun k q hk => h.2 _ q (ap_r hk)⟩
theorem D_ap {A : Nat → Prop} {w v : va_W} (h : va_D A (w ++ v)) : apt w v := fun i j p q hp hq e => by
  have := h.1 _ _ p q (ap_l hp) (ap_r hq) e
  have := (List.getElem?_eq_some_iff.mp hp).1
  omega
def lA (s : State) : Nat → Prop := fun q => s.heap.size ≤ q
section HC
variable {p : Program} {l : Launch} {e : Env} {R : Room} {s : State} {m : MethodId} {args : Array Value} {below : List Frame} {meth : Method} {c : Code} {H : Heap} {locs : List Loc} {cells slots : Nat} {Q : State → Prop}
variable {cc : ByteArray} {pc : Nat} {ls : Array Slot} {rest st : List Value} {dC : Nat → ClassId} {dI : Nat → Nat → Nat} {A : Nat → Prop} {tys : List (ClassId × FieldType)} {H0 : Heap}
theorem out_of {w wo : va_W} (hPo : va_P (dC, dI) cl2 wo H) (hap : apt w wo) : ∀ (k : Nat) (x : Nat × va_E), wo[k]? = some x → x.1 < H.size ∧ ¬ va_A w H.size x.1 := by
  intro k x hx
  have hl := (hPo k x hx).lt
  refine ⟨hl, fun h => ?_⟩
  rcases h with ⟨i, e, h⟩ | h
  · exact hap i k _ x h hx rfl
  · exact absurd hl (Nat.not_lt.mpr h)
/-- a call through one of two objects: the other's world stays -/
theorem hcalli {S : Type} {post : Int32 → S → Prop} {w wo : va_W} {w1 : S → va_W} {ci q0 b nL index maxL n : Nat} {qc : vw_C} {fs As : List Value} {y : MethodName} {bytes : ByteArray} {ret : Option FieldType} {ws : List Cond} {rm : Room} {own : String}
    (S0 : CallFix p m c cc nL s args lw_all own) (hM : Met l y ws rm (gP (dC, dI) tys w H.size (.ref b :: As)) (gQi (dC, dI) post w w1 H.size) 0 0 (va_A w H.size)) (cw : CallW R s args own qc.1 index y bytes maxL ret ws rm 0 0 n)
    (hK : va_K (dC, dI) cl2 tys s) (hP : va_P (dC, dI) cl2 w H) (hPo : va_P (dC, dI) cl2 wo H) (hD : va_D A w) (hap : apt w wo) (hS : va_S A H0 H locs) (hA : ∀ q, H0.size ≤ q → A q) (hc : cl2[ci]? = some qc) (he : w[q0]? = some (b, .inr (ci, fs)))
    (hsz : ls.size = nL) (hst : st = As.reverse ++ .ref b :: rest) (hW : (rest.map fun v => v.category).sum ≤ 8) (hdg : decode cc pc = .ok (.invokevirtual index, 3)) (hf : cells ≤ R.cells ∧ slots ≤ R.slots)
    (kk : ∀ (r : Int32) (u : S) (H1 : Heap) (locs1 : List Loc), post r u → va_P (dC, dI) cl2 (w1 u) H1 → va_P (dC, dI) cl2 wo H1 → va_D A (w1 u) → apt (w1 u) wo → va_S A H0 H1 locs1 → W p l e R s m args below meth c H1 locs1 cells slots Q (F0 m (pc + 3) ls (.int r :: rest)))
    (hn : As.length = n := by rfl) : W p l e R s m args below meth c H locs cells slots Q (F0 m pc ls st) := by
  have hF : ∀ q, va_A w H.size q → A q := by
    intro q h
    rcases h with ⟨k, e, h⟩ | h
    · exact hD.2 k _ h
    · exact hA q (Nat.le_trans hS.1 h)
  have hno := out_of hPo hap
  refine va_calli (va_runV (As := As) (rest := rest) S0 hM cw ⟨fun a U g mk q => by obtain ⟨q0, q1, qP, qK, qD⟩ := q; exact ⟨q0, q1, qP, va_K.moved (u := U) (U := U.calling g mk a) (Vm.Alike.refl U.vm) qK, qD⟩, va_recv hK hP (ci := ci) (q0 := q0) hc he, fun U hU hW => ⟨rfl, by rw [hU], by rw [hU]; exact hP, va_K.moved hW.alike hK, hD.weaken (fun _ _ _ _ => trivial)⟩⟩ rfl hn hsz hst (lv_room hW) hdg hf) hS (fun q _ h => hF q h) hF (fun r u t H1 locs1 ht hvm hw hB hz hk hS1 => ?_)
  obtain ⟨hP1, hD1⟩ := hB
  rw [ht] at hP1
  exact kk r u H1 locs1 hw hP1 (hPo.kept (fun k x hx => hk x.1 (hno k x hx).1 (hno k x hx).2)) (hD1.weaken (fun k q _ h => hF q.1 h)) (fun i j x y hx hy e => (hno j y hy).2 (by rw [← e]; exact hD1.2 i x hx)) hS1
/-- a constructor's call -/
theorem hcallI {S : Type} {post : S → Prop} {w wo : va_W} {w1 : S → va_W} {t1 : S → List (ClassId × FieldType)} {b nL index maxL n mc ms : Nat} {As : List Value} {y : MethodName} {bytes : ByteArray} {ws : List Cond} {rm : Room} {own : String}
    (S0 : CallFix p m c cc nL s args lw_all own) (hM : Met l y ws rm (gP (dC, dI) tys w H.size (.ref b :: As)) (gQn (dC, dI) post w w1 t1 H.size) mc ms (va_A w H.size)) (cw : CallB R s args own index y bytes maxL none ws rm mc ms n ∧ y.name = "<init>" ∧ (Cond.instanceMethod y).before args s = true)
    (hK : va_K (dC, dI) cl2 tys s) (hP : va_P (dC, dI) cl2 w H) (hPo : va_P (dC, dI) cl2 wo H) (hD : va_D A w) (hap : apt w wo) (hS : va_S A H0 H locs) (hA : ∀ q, H0.size ≤ q → A q)
    (hsz : ls.size = nL) (hst : st = As.reverse ++ .ref b :: rest) (hW : (rest.map fun v => v.category).sum ≤ 8) (hdg : decode cc pc = .ok (.invokespecial index, 3)) (hf : cells + mc ≤ R.cells ∧ slots + ms ≤ R.slots)
    (kk : ∀ (u : S) (H1 : Heap) (locs1 : List Loc), post u → va_P (dC, dI) cl2 (w1 u) H1 → va_P (dC, dI) cl2 wo H1 → va_D A (w1 u) → apt (w1 u) wo → va_K (dC, dI) cl2 (t1 u) s → va_S A H0 H1 locs1 → W p l e R s m args below meth c H1 locs1 (cells + mc) (slots + ms) Q (F0 m (pc + 3) ls rest))
    (hn : As.length = n := by rfl) : W p l e R s m args below meth c H locs cells slots Q (F0 m pc ls st) := by
  have hF : ∀ q, va_A w H.size q → A q := by
    intro q h
    rcases h with ⟨k, e, h⟩ | h
    · exact hD.2 k _ h
    · exact hA q (Nat.le_trans hS.1 h)
  have hno := out_of hPo hap
  refine va_callv (va_runI (As := As) (rest := rest) S0 hM cw ⟨fun a U g mk q => by obtain ⟨q0, q1, qP, qK, qD⟩ := q; exact ⟨q0, q1, qP, va_K.moved (u := U) (U := U.calling g mk a) (Vm.Alike.refl U.vm) qK, qD⟩, fun U hU hW => ⟨rfl, by rw [hU], by rw [hU]; exact hP, va_K.moved hW.alike hK, hD.weaken (fun _ _ _ _ => trivial)⟩⟩ rfl hn hsz hst (lv_room hW) hdg hf) hS (fun q _ h => hF q h) hF (fun u t H1 locs1 ht hvm hw hB hz hk hS1 => ?_)
  obtain ⟨hP1, hD1, hK1⟩ := hB
  rw [ht] at hP1
  exact kk u H1 locs1 hw hP1 (hPo.kept (fun k x hx => hk x.1 (hno k x hx).1 (hno k x hx).2)) (hD1.weaken (fun k q _ h => hF q.1 h)) (fun i j x y hx hy e => (hno j y hy).2 (by rw [← e]; exact hD1.2 i x hx)) (va_K.moved hvm.symm hK1) hS1
/-- cell(script, 0) -/
theorem hcell {w : va_W} {b L nL : Nat} {xs : Nat → Int32} (hL : L < 2 ^ 31) (S0 : CallFix p m c cc nL s args lw_all RX0) (hX : va_X b L xs s s.heap) (hbl : b < s.heap.size) (hbA : ¬ A b) (hP : va_P (dC, dI) cl2 w H) (hS : va_S A s.heap H locs) (hA : ∀ q, s.heap.size ≤ q → A q)
    (hR : 0 + 1 ≤ R.frames ∧ 8 + (2 + 11) + 0 ≤ R.locals) (hsz : ls.size = nL) (hW : (rest.map fun v => v.category).sum ≤ 8) (hdg : decode cc pc = .ok (.invokestatic 9, 3)) (hf : cells ≤ R.cells ∧ slots ≤ R.slots)
    (kk : ∀ (H1 : Heap) (locs1 : List Loc), va_P (dC, dI) cl2 w H1 → va_S A s.heap H1 locs1 → W p l e R s m args below meth c H1 locs1 cells slots Q (F0 m (pc + 3) ls (.int (cellV L xs) :: rest))) : W p l e R s m args below meth c H locs cells slots Q (F0 m pc ls (.int 0 :: .ref b :: rest)) := by
  have hF : ∀ q, va_A [] H.size q → A q := by
    intro q h
    rcases h with ⟨k, e, h⟩ | h
    · cases h
    · exact hA q (Nat.le_trans hS.1 h)
  have hts := S0.2.2.2.2
  refine va_calli (va_runS (As := [.ref b, .int 0]) (rest := rest) S0 (metX0_cell l b L H.size xs hL) (va_cwS 2 hts (lw_S q148 q149 q18 q150) rfl rfl rfl (by decide +kernel) hR) ⟨fun a U g mk q => by obtain ⟨q0, q1, qX⟩ := q; exact ⟨q0, q1, va_X.moved (u := U) (U := U.calling g mk a) (Vm.Alike.refl U.vm) qX⟩, fun U hU hW => ⟨rfl, by rw [hU], by rw [hU]; exact (hX.kept (hS.2.1 b hbl hbA)).moved hW.alike⟩⟩ rfl rfl hsz rfl (lv_room hW) hdg hf) hS (fun q _ h => hF q h) hF (fun r u t H1 locs1 ht hvm hw hB hz hk hS1 => ?_)
  have hw : r = cellV L xs := hw
  subst hw
  refine kk H1 locs1 (hP.kept (fun k x hx => hk x.1 (hP k x hx).lt (fun h => ?_))) hS1
  rcases h with ⟨i, e, h⟩ | h
  · cases h
  · exact absurd (hP k x hx).lt (Nat.not_lt.mpr h)
/-- a cell of the script -/
theorem lsld {b L : Nat} {xs : Nat → Int32} (hx : p.tables.exec = Jvm.exec) (hb : c.code = cc) (hX : va_X b L xs s H0) (hbl : b < H0.size) (hbA : ¬ A b) (hS : va_S A H0 H locs) {i : Int32} (j : Nat) (hi : i = nI j) (hj : j < L) (hL : L ≤ 193) (hdg : decode cc pc = .ok (.iaload, 1))
    (kk : W p l e R s m args below meth c H locs cells slots Q (F0 m (pc + 1) ls (.int (xs j) :: rest))) : W p l e R s m args below meth c H locs cells slots Q (F0 m pc ls (.int i :: .ref b :: rest)) := by
  subst hi
  refine va_sld hx hb hX hbl hbA hS (vp_in_nI hj (by omega)) hdg ?_
  rw [nI_clamp (by omega)]
  exact kk
end HC
theorem lim {L k : Nat} (hL : L ≤ 193) (hk : k ≤ 200) (c : ¬ (Int32.ofNat L - 3) < nI k) : k + 3 ≤ L := by
  rcases Nat.lt_or_ge L 3 with q | q
  · refine absurd ?_ c
    have h0 : (0 : Int32) ≤ nI k := nI_pos' (by omega)
    rcases (show L = 0 ∨ L = 1 ∨ L = 2 by omega) with rfl | rfl | rfl
    · exact Int32.lt_of_lt_of_le (by decide) h0
    · exact Int32.lt_of_lt_of_le (by decide) h0
    · exact Int32.lt_of_lt_of_le (by decide) h0
  · have h := nI_add (L - 3) 3
    rw [show L - 3 + 3 = L by omega] at h
    have e : Int32.ofNat L - 3 = nI (L - 3) := by
      show nI L - 3 = _
      rw [← h]
      generalize nI (L - 3) = x
      show x + 3 - 3 = x
      grind
    rw [e] at c
    have := kle (N := L - 3) (by omega) c
    omega
theorem cwl_X1_attack {R rm : Room} {s : State} {args : Array Value} (hts : ∀ w ∈ lw_all, w.before args s = true) (hR : rm.frames + 1 ≤ R.frames ∧ 8 + (3 + 11) + rm.locals ≤ R.locals) (hc : rm.cells = 0 := by rfl) (hs : rm.slots = 0 := by rfl) : CallW R s args RX0 RX1 21 yX1_attack cX1_attack 3 (some .int) (ws_ yX1_attack cX1_attack 3 (some .int)) rm 0 0 2 := cwV 2 hts (lw_V q80 q81 q82 q19 q83) rfl hc hs (by decide +kernel) hR
theorem cwl_X2_attack {R rm : Room} {s : State} {args : Array Value} (hts : ∀ w ∈ lw_all, w.before args s = true) (hR : rm.frames + 1 ≤ R.frames ∧ 8 + (3 + 11) + rm.locals ≤ R.locals) (hc : rm.cells = 0 := by rfl) (hs : rm.slots = 0 := by rfl) : CallW R s args RX0 RX2 25 yX2_attack cX2_attack 3 (some .int) (ws_ yX2_attack cX2_attack 3 (some .int)) rm 0 0 2 := cwV 2 hts (lw_V q168 q169 q170 q20 q171) rfl hc hs (by decide +kernel) hR
theorem cwl_X1_withdraw {R rm : Room} {s : State} {args : Array Value} (hts : ∀ w ∈ lw_all, w.before args s = true) (hR : rm.frames + 1 ≤ R.frames ∧ 8 + (3 + 11) + rm.locals ≤ R.locals) (hc : rm.cells = 0 := by rfl) (hs : rm.slots = 0 := by rfl) : CallW R s args RX0 RX1 26 yX1_withdraw cX1_withdraw 3 (some .int) (ws_ yX1_withdraw cX1_withdraw 3 (some .int)) rm 0 0 2 := cwV 2 hts (lw_V q88 q89 q90 q19 q91) rfl hc hs (by decide +kernel) hR
theorem cwl_X2_withdraw {R rm : Room} {s : State} {args : Array Value} (hts : ∀ w ∈ lw_all, w.before args s = true) (hR : rm.frames + 1 ≤ R.frames ∧ 8 + (3 + 11) + rm.locals ≤ R.locals) (hc : rm.cells = 0 := by rfl) (hs : rm.slots = 0 := by rfl) : CallW R s args RX0 RX2 29 yX2_withdraw cX2_withdraw 3 (some .int) (ws_ yX2_withdraw cX2_withdraw 3 (some .int)) rm 0 0 2 := cwV 2 hts (lw_V q176 q177 q178 q20 q179) rfl hc hs (by decide +kernel) hR
theorem cwl_X1_attacks {R rm : Room} {s : State} {args : Array Value} (hts : ∀ w ∈ lw_all, w.before args s = true) (hR : rm.frames + 1 ≤ R.frames ∧ 8 + (3 + 11) + rm.locals ≤ R.locals) (hc : rm.cells = 0 := by rfl) (hs : rm.slots = 0 := by rfl) : CallW R s args RX0 RX1 30 yX1_attacks cX1_attacks 3 (some .boolean) (ws_ yX1_attacks cX1_attacks 3 (some .boolean)) rm 0 0 2 := cwV 2 hts (lw_V q92 q93 q94 q19 q95) rfl hc hs (by decide +kernel) hR
theorem cwl_X2_attacks {R rm : Room} {s : State} {args : Array Value} (hts : ∀ w ∈ lw_all, w.before args s = true) (hR : rm.frames + 1 ≤ R.frames ∧ 8 + (3 + 11) + rm.locals ≤ R.locals) (hc : rm.cells = 0 := by rfl) (hs : rm.slots = 0 := by rfl) : CallW R s args RX0 RX2 34 yX2_attacks cX2_attacks 3 (some .boolean) (ws_ yX2_attacks cX2_attacks 3 (some .boolean)) rm 0 0 2 := cwV 2 hts (lw_V q180 q181 q182 q20 q183) rfl hc hs (by decide +kernel) hR
theorem cwl_X1_grounded {R rm : Room} {s : State} {args : Array Value} (hts : ∀ w ∈ lw_all, w.before args s = true) (hR : rm.frames + 1 ≤ R.frames ∧ 8 + (3 + 11) + rm.locals ≤ R.locals) (hc : rm.cells = 0 := by rfl) (hs : rm.slots = 0 := by rfl) : CallW R s args RX0 RX1 35 yX1_grounded cX1_grounded 3 (some .int) (ws_ yX1_grounded cX1_grounded 3 (some .int)) rm 0 0 0 := cwV 0 hts (lw_V q96 q97 q98 q19 q99) rfl hc hs (by decide +kernel) hR
theorem cwl_X2_grounded {R rm : Room} {s : State} {args : Array Value} (hts : ∀ w ∈ lw_all, w.before args s = true) (hR : rm.frames + 1 ≤ R.frames ∧ 8 + (4 + 11) + rm.locals ≤ R.locals) (hc : rm.cells = 0 := by rfl) (hs : rm.slots = 0 := by rfl) : CallW R s args RX0 RX2 39 yX2_grounded cX2_grounded 4 (some .int) (ws_ yX2_grounded cX2_grounded 4 (some .int)) rm 0 0 0 := cwV 0 hts (lw_V q184 q185 q186 q20 q187) rfl hc hs (by decide +kernel) hR
theorem cwl_X1_count {R rm : Room} {s : State} {args : Array Value} (hts : ∀ w ∈ lw_all, w.before args s = true) (hR : rm.frames + 1 ≤ R.frames ∧ 8 + (4 + 11) + rm.locals ≤ R.locals) (hc : rm.cells = 0 := by rfl) (hs : rm.slots = 0 := by rfl) : CallW R s args RX0 RX1 40 yX1_count cX1_count 4 (some .int) (ws_ yX1_count cX1_count 4 (some .int)) rm 0 0 1 := cwV 1 hts (lw_V q100 q101 q102 q19 q103) rfl hc hs (by decide +kernel) hR
theorem cwl_X2_count {R rm : Room} {s : State} {args : Array Value} (hts : ∀ w ∈ lw_all, w.before args s = true) (hR : rm.frames + 1 ≤ R.frames ∧ 8 + (4 + 11) + rm.locals ≤ R.locals) (hc : rm.cells = 0 := by rfl) (hs : rm.slots = 0 := by rfl) : CallW R s args RX0 RX2 44 yX2_count cX2_count 4 (some .int) (ws_ yX2_count cX2_count 4 (some .int)) rm 0 0 1 := cwV 1 hts (lw_V q200 q201 q202 q20 q203) rfl hc hs (by decide +kernel) hR
theorem cwl_X1_extension {R rm : Room} {s : State} {args : Array Value} (hts : ∀ w ∈ lw_all, w.before args s = true) (hR : rm.frames + 1 ≤ R.frames ∧ 8 + (5 + 11) + rm.locals ≤ R.locals) (hc : rm.cells = 0 := by rfl) (hs : rm.slots = 0 := by rfl) : CallW R s args RX0 RX1 45 yX1_extension cX1_extension 5 (some .int) (ws_ yX1_extension cX1_extension 5 (some .int)) rm 0 0 2 := cwV 2 hts (lw_V q132 q133 q134 q19 q135) rfl hc hs (by decide +kernel) hR
theorem cwl_X2_extension {R rm : Room} {s : State} {args : Array Value} (hts : ∀ w ∈ lw_all, w.before args s = true) (hR : rm.frames + 1 ≤ R.frames ∧ 8 + (5 + 11) + rm.locals ≤ R.locals) (hc : rm.cells = 0 := by rfl) (hs : rm.slots = 0 := by rfl) : CallW R s args RX0 RX2 48 yX2_extension cX2_extension 5 (some .int) (ws_ yX2_extension cX2_extension 5 (some .int)) rm 0 0 2 := cwV 2 hts (lw_V q228 q229 q230 q20 q231) rfl hc hs (by decide +kernel) hR
theorem cwl_X1_inSome {R rm : Room} {s : State} {args : Array Value} (hts : ∀ w ∈ lw_all, w.before args s = true) (hR : rm.frames + 1 ≤ R.frames ∧ 8 + (4 + 11) + rm.locals ≤ R.locals) (hc : rm.cells = 0 := by rfl) (hs : rm.slots = 0 := by rfl) : CallW R s args RX0 RX1 49 yX1_inSome cX1_inSome 4 (some .int) (ws_ yX1_inSome cX1_inSome 4 (some .int)) rm 0 0 1 := cwV 1 hts (lw_V q136 q137 q138 q19 q139) rfl hc hs (by decide +kernel) hR
theorem cwl_X2_inSome {R rm : Room} {s : State} {args : Array Value} (hts : ∀ w ∈ lw_all, w.before args s = true) (hR : rm.frames + 1 ≤ R.frames ∧ 8 + (4 + 11) + rm.locals ≤ R.locals) (hc : rm.cells = 0 := by rfl) (hs : rm.slots = 0 := by rfl) : CallW R s args RX0 RX2 52 yX2_inSome cX2_inSome 4 (some .int) (ws_ yX2_inSome cX2_inSome 4 (some .int)) rm 0 0 1 := cwV 1 hts (lw_V q232 q233 q234 q20 q235) rfl hc hs (by decide +kernel) hR
theorem cwl_X1_inEvery {R rm : Room} {s : State} {args : Array Value} (hts : ∀ w ∈ lw_all, w.before args s = true) (hR : rm.frames + 1 ≤ R.frames ∧ 8 + (4 + 11) + rm.locals ≤ R.locals) (hc : rm.cells = 0 := by rfl) (hs : rm.slots = 0 := by rfl) : CallW R s args RX0 RX1 53 yX1_inEvery cX1_inEvery 4 (some .int) (ws_ yX1_inEvery cX1_inEvery 4 (some .int)) rm 0 0 1 := cwV 1 hts (lw_V q140 q141 q142 q19 q143) rfl hc hs (by decide +kernel) hR
theorem cwl_X2_inEvery {R rm : Room} {s : State} {args : Array Value} (hts : ∀ w ∈ lw_all, w.before args s = true) (hR : rm.frames + 1 ≤ R.frames ∧ 8 + (4 + 11) + rm.locals ≤ R.locals) (hc : rm.cells = 0 := by rfl) (hs : rm.slots = 0 := by rfl) : CallW R s args RX0 RX2 56 yX2_inEvery cX2_inEvery 4 (some .int) (ws_ yX2_inEvery cX2_inEvery 4 (some .int)) rm 0 0 1 := cwV 1 hts (lw_V q236 q237 q238 q20 q239) rfl hc hs (by decide +kernel) hR
theorem cwl_X1_clear {R rm : Room} {s : State} {args : Array Value} (hts : ∀ w ∈ lw_all, w.before args s = true) (hR : rm.frames + 1 ≤ R.frames ∧ 8 + (4 + 11) + rm.locals ≤ R.locals) (hc : rm.cells = 0 := by rfl) (hs : rm.slots = 0 := by rfl) : CallW R s args RX0 RX1 57 yX1_clear cX1_clear 4 (some .int) (ws_ yX1_clear cX1_clear 4 (some .int)) rm 0 0 0 := cwV 0 hts (lw_V q144 q145 q146 q19 q147) rfl hc hs (by decide +kernel) hR
theorem cwl_X2_clear {R rm : Room} {s : State} {args : Array Value} (hts : ∀ w ∈ lw_all, w.before args s = true) (hR : rm.frames + 1 ≤ R.frames ∧ 8 + (3 + 11) + rm.locals ≤ R.locals) (hc : rm.cells = 0 := by rfl) (hs : rm.slots = 0 := by rfl) : CallW R s args RX0 RX2 60 yX2_clear cX2_clear 3 (some .int) (ws_ yX2_clear cX2_clear 3 (some .int)) rm 0 0 0 := cwV 0 hts (lw_V q240 q241 q242 q20 q243) rfl hc hs (by decide +kernel) hR
/-- the law at a place with an empty stack, whatever the two objects hold -/
def lAt (p : Program) (l : Launch) (e : Env) (s : State) (m : MethodId) (below : List Frame) (meth : Method) (c : Code) (b : Nat) (dC : Nat → ClassId) (dI : Nat → Nat → Nat) (cI cB cZ : ClassId) (ad bd : Nat → Nat) (ν : Nat) (ls : Array Slot) (pc : Nat) : Prop :=
  ∀ (at_ tg : Nat → Int32) (ac re un ch : Int32) (fa fr fu fg ft : Nat → Int32) (se : Int32) (kd rg th : Nat → Int32), LI ν (nI ν) (nI (allN ν)) at_ tg se kd (nI ν) (nI (allN ν)) th → ∀ (H : Heap) (locs : List Loc), va_P (dC, dI) cl2 (wL cI cB ad (nI ν) (nI (allN ν)) at_ tg ac re un ch fa fr fu fg ft se kd rg) H → va_P (dC, dI) cl2 (wM cZ bd (nI ν) (nI (allN ν)) th) H → va_D (lA s) (wL cI cB ad (nI ν) (nI (allN ν)) at_ tg ac re un ch fa fr fu fg ft se kd rg) → va_D (lA s) (wM cZ bd (nI ν) (nI (allN ν)) th) → apt (wL cI cB ad (nI ν) (nI (allN ν)) at_ tg ac re un ch fa fr fu fg ft se kd rg) (wM cZ bd (nI ν) (nI (allN ν)) th) → va_S (lA s) s.heap H locs →
    W p l e room_1 s m #[Value.ref b] below meth c H locs 12 656 (lw_Z below #[Value.ref b] s) (F0 m pc ls [])
end
section
set_option maxHeartbeats 4000000 in
set_option maxRecDepth 100000 in
theorem arm_attack {p : Program} {l : Launch} {e : Env} {s : State} {m : MethodId} {below : List Frame} {meth : Method} {c : Code} {b L : Nat} {xs : Nat → Int32} {dC : Nat → ClassId} {dI : Nat → Nat → Nat} {cI cB cZ : ClassId} {ad bd : Nat → Nat} {ν : Nat} (hL : L ≤ 193) (C0 : lw_At p s m meth c b L xs) (hv : ν ≤ 8) (hK : va_K (dC, dI) cl2 (tyL cI cB) s) (hKm : va_K (dC, dI) cl2 (tyM cZ) s) {k : Nat} (hk : k + 3 ≤ L) {ls : Array Slot} (hl : lv_has ls 4 [(0, .ref b), (1, .ref (ad 0)), (2, .ref (bd 0)), (3, .int (nI k))]) (K : lAt p l e s m below meth c b dC dI cI cB cZ ad bd ν ls 319) : lAt p l e s m below meth c b dC dI cI cB cZ ad bd ν ls 92 := by
  obtain ⟨hx, hb, hr, hml, hown, hts0, hX, hbl, hlocks, hgv⟩ := C0
  have hown : s.vm.findClass RX0 = some m.cls := hown
  have hts : ∀ w ∈ lw_all, w.before #[Value.ref b] s = true := fun w h => hts0 w (lw_all_tbl h)
  have hA : ∀ q : Nat, s.heap.size ≤ q → lA s q := fun _ h => h
  have hbA : ¬ lA s b := Nat.not_le.mpr hbl
  intro at_ tg ac re un ch fa fr fu fg ft se kd rg th hLI H locs hP hPm hD hDm hap hS
  refine lv_aload_n hx hb dL_law_92 rfl (lv_at hl 1 rfl) ?_
  refine lv_aload_n hx hb dL_law_93 rfl (lv_at hl 0 rfl) ?_
  refine lv_iload_n hx hb dL_law_94 rfl (lv_at hl 3 rfl) ?_
  refine lv_iconst (v := 1) hx hb dL_law_95 (by decide) ?_
  refine lv_iadd hx hb dL_law_96 ?_
  refine lsld hx hb hX hbl hbA hS (k + 1) (nI_add k 1) (by omega) hL dL_law_97 ?_
  refine lv_aload_n hx hb dL_law_98 rfl (lv_at hl 0 rfl) ?_
  refine lv_iload_n hx hb dL_law_99 rfl (lv_at hl 3 rfl) ?_
  refine lv_iconst (v := 2) hx hb dL_law_100 (by decide) ?_
  refine lv_iadd hx hb dL_law_101 ?_
  refine lsld hx hb hX hbl hbA hS (k + 2) (nI_add k 2) (by omega) hL dL_law_102 ?_
  refine hcalli (As := [.int (xs (k + 1)), .int (xs (k + 2))]) (rest := []) ⟨hx, hb, hml, hown, hts⟩ (metX1_attack l dC dI cI cB ad H.size (nI ν) (nI (allN ν)) at_ tg ac re un ch fa fr fu fg ft se kd rg ν (xs (k + 1)) (xs (k + 2)) rfl hv) (cwl_X1_attack hts ⟨Nat.le_of_ble_eq_true rfl, Nat.le_of_ble_eq_true rfl⟩) hK hP hPm hD hap hS hA (ci := 0) (q0 := 0) rfl rfl hl.1 rfl (Nat.le_of_ble_eq_true rfl) dL_law_103 ⟨Nat.le_of_ble_eq_true rfl, Nat.le_of_ble_eq_true rfl⟩ (fun r1 u H locs hw1 hP hPm hD hap hS => ?_)
  obtain ⟨at_', tg', se'⟩ := u
  have hP : va_P (dC, dI) cl2 (wL cI cB ad (nI ν) (nI (allN ν)) at_' tg' ac re un ch fa fr fu fg ft se' kd rg) H := hP
  have hD : va_D (lA s) (wL cI cB ad (nI ν) (nI (allN ν)) at_' tg' ac re un ch fa fr fu fg ft se' kd rg) := hD
  have hap : apt (wL cI cB ad (nI ν) (nI (allN ν)) at_' tg' ac re un ch fa fr fu fg ft se' kd rg) (wM cZ bd (nI ν) (nI (allN ν)) th) := hap
  refine lv_aload_n hx hb dL_law_106 rfl (lv_at hl 2 rfl) ?_
  refine lv_aload_n hx hb dL_law_107 rfl (lv_at hl 0 rfl) ?_
  refine lv_iload_n hx hb dL_law_108 rfl (lv_at hl 3 rfl) ?_
  refine lv_iconst (v := 1) hx hb dL_law_109 (by decide) ?_
  refine lv_iadd hx hb dL_law_110 ?_
  refine lsld hx hb hX hbl hbA hS (k + 1) (nI_add k 1) (by omega) hL dL_law_111 ?_
  refine lv_aload_n hx hb dL_law_112 rfl (lv_at hl 0 rfl) ?_
  refine lv_iload_n hx hb dL_law_113 rfl (lv_at hl 3 rfl) ?_
  refine lv_iconst (v := 2) hx hb dL_law_114 (by decide) ?_
  refine lv_iadd hx hb dL_law_115 ?_
  refine lsld hx hb hX hbl hbA hS (k + 2) (nI_add k 2) (by omega) hL dL_law_116 ?_
  refine hcalli (As := [.int (xs (k + 1)), .int (xs (k + 2))]) (rest := [.int r1]) ⟨hx, hb, hml, hown, hts⟩ (metX2_attack l dC dI cZ bd H.size (nI ν) (nI (allN ν)) th ν (xs (k + 1)) (xs (k + 2)) rfl hv) (cwl_X2_attack hts ⟨Nat.le_of_ble_eq_true rfl, Nat.le_of_ble_eq_true rfl⟩) hKm hPm hP hDm hap.symm hS hA (ci := 1) (q0 := 0) rfl rfl hl.1 rfl (Nat.le_of_ble_eq_true rfl) dL_law_117 ⟨Nat.le_of_ble_eq_true rfl, Nat.le_of_ble_eq_true rfl⟩ (fun r2 th' H locs hw2 hPm hP hDm hap hS => ?_)
  have hPm : va_P (dC, dI) cl2 (wM cZ bd (nI ν) (nI (allN ν)) th') H := hPm
  have hDm : va_D (lA s) (wM cZ bd (nI ν) (nI (allN ν)) th') := hDm
  have hap : apt (wM cZ bd (nI ν) (nI (allN ν)) th') (wL cI cB ad (nI ν) (nI (allN ν)) at_' tg' ac re un ch fa fr fu fg ft se' kd rg) := hap
  obtain ⟨er, hLI⟩ := law_attack hLI hw1 hw2
  refine lv_icmp_eq (tgt := 319) hx hb dL_law_120 (by decide) (fun _ => ?_) (fun c_ => absurd er c_)
  exact K at_' tg' ac re un ch fa fr fu fg ft se' kd rg th' hLI H locs hP hPm hD hDm hap.symm hS
set_option maxHeartbeats 4000000 in
set_option maxRecDepth 100000 in
theorem arm_withdraw {p : Program} {l : Launch} {e : Env} {s : State} {m : MethodId} {below : List Frame} {meth : Method} {c : Code} {b L : Nat} {xs : Nat → Int32} {dC : Nat → ClassId} {dI : Nat → Nat → Nat} {cI cB cZ : ClassId} {ad bd : Nat → Nat} {ν : Nat} (hL : L ≤ 193) (C0 : lw_At p s m meth c b L xs) (hv : ν ≤ 8) (hK : va_K (dC, dI) cl2 (tyL cI cB) s) (hKm : va_K (dC, dI) cl2 (tyM cZ) s) {k : Nat} (hk : k + 3 ≤ L) {ls : Array Slot} (hl : lv_has ls 4 [(0, .ref b), (1, .ref (ad 0)), (2, .ref (bd 0)), (3, .int (nI k))]) (K : lAt p l e s m below meth c b dC dI cI cB cZ ad bd ν ls 319) : lAt p l e s m below meth c b dC dI cI cB cZ ad bd ν ls 125 := by
  obtain ⟨hx, hb, hr, hml, hown, hts0, hX, hbl, hlocks, hgv⟩ := C0
  have hown : s.vm.findClass RX0 = some m.cls := hown
  have hts : ∀ w ∈ lw_all, w.before #[Value.ref b] s = true := fun w h => hts0 w (lw_all_tbl h)
  have hA : ∀ q : Nat, s.heap.size ≤ q → lA s q := fun _ h => h
  have hbA : ¬ lA s b := Nat.not_le.mpr hbl
  intro at_ tg ac re un ch fa fr fu fg ft se kd rg th hLI H locs hP hPm hD hDm hap hS
  refine lv_aload_n hx hb dL_law_125 rfl (lv_at hl 1 rfl) ?_
  refine lv_aload_n hx hb dL_law_126 rfl (lv_at hl 0 rfl) ?_
  refine lv_iload_n hx hb dL_law_127 rfl (lv_at hl 3 rfl) ?_
  refine lv_iconst (v := 1) hx hb dL_law_128 (by decide) ?_
  refine lv_iadd hx hb dL_law_129 ?_
  refine lsld hx hb hX hbl hbA hS (k + 1) (nI_add k 1) (by omega) hL dL_law_130 ?_
  refine lv_aload_n hx hb dL_law_131 rfl (lv_at hl 0 rfl) ?_
  refine lv_iload_n hx hb dL_law_132 rfl (lv_at hl 3 rfl) ?_
  refine lv_iconst (v := 2) hx hb dL_law_133 (by decide) ?_
  refine lv_iadd hx hb dL_law_134 ?_
  refine lsld hx hb hX hbl hbA hS (k + 2) (nI_add k 2) (by omega) hL dL_law_135 ?_
  refine hcalli (As := [.int (xs (k + 1)), .int (xs (k + 2))]) (rest := []) ⟨hx, hb, hml, hown, hts⟩ (metX1_withdraw l dC dI cI cB ad H.size (nI ν) (nI (allN ν)) at_ tg ac re un ch fa fr fu fg ft se kd rg ν (xs (k + 1)) (xs (k + 2)) rfl hv) (cwl_X1_withdraw hts ⟨Nat.le_of_ble_eq_true rfl, Nat.le_of_ble_eq_true rfl⟩) hK hP hPm hD hap hS hA (ci := 0) (q0 := 0) rfl rfl hl.1 rfl (Nat.le_of_ble_eq_true rfl) dL_law_136 ⟨Nat.le_of_ble_eq_true rfl, Nat.le_of_ble_eq_true rfl⟩ (fun r1 u H locs hw1 hP hPm hD hap hS => ?_)
  obtain ⟨at_', tg', se'⟩ := u
  have hP : va_P (dC, dI) cl2 (wL cI cB ad (nI ν) (nI (allN ν)) at_' tg' ac re un ch fa fr fu fg ft se' kd rg) H := hP
  have hD : va_D (lA s) (wL cI cB ad (nI ν) (nI (allN ν)) at_' tg' ac re un ch fa fr fu fg ft se' kd rg) := hD
  have hap : apt (wL cI cB ad (nI ν) (nI (allN ν)) at_' tg' ac re un ch fa fr fu fg ft se' kd rg) (wM cZ bd (nI ν) (nI (allN ν)) th) := hap
  refine lv_aload_n hx hb dL_law_139 rfl (lv_at hl 2 rfl) ?_
  refine lv_aload_n hx hb dL_law_140 rfl (lv_at hl 0 rfl) ?_
  refine lv_iload_n hx hb dL_law_141 rfl (lv_at hl 3 rfl) ?_
  refine lv_iconst (v := 1) hx hb dL_law_142 (by decide) ?_
  refine lv_iadd hx hb dL_law_143 ?_
  refine lsld hx hb hX hbl hbA hS (k + 1) (nI_add k 1) (by omega) hL dL_law_144 ?_
  refine lv_aload_n hx hb dL_law_145 rfl (lv_at hl 0 rfl) ?_
  refine lv_iload_n hx hb dL_law_146 rfl (lv_at hl 3 rfl) ?_
  refine lv_iconst (v := 2) hx hb dL_law_147 (by decide) ?_
  refine lv_iadd hx hb dL_law_148 ?_
  refine lsld hx hb hX hbl hbA hS (k + 2) (nI_add k 2) (by omega) hL dL_law_149 ?_
  refine hcalli (As := [.int (xs (k + 1)), .int (xs (k + 2))]) (rest := [.int r1]) ⟨hx, hb, hml, hown, hts⟩ (metX2_withdraw l dC dI cZ bd H.size (nI ν) (nI (allN ν)) th ν (xs (k + 1)) (xs (k + 2)) rfl hv) (cwl_X2_withdraw hts ⟨Nat.le_of_ble_eq_true rfl, Nat.le_of_ble_eq_true rfl⟩) hKm hPm hP hDm hap.symm hS hA (ci := 1) (q0 := 0) rfl rfl hl.1 rfl (Nat.le_of_ble_eq_true rfl) dL_law_150 ⟨Nat.le_of_ble_eq_true rfl, Nat.le_of_ble_eq_true rfl⟩ (fun r2 th' H locs hw2 hPm hP hDm hap hS => ?_)
  have hPm : va_P (dC, dI) cl2 (wM cZ bd (nI ν) (nI (allN ν)) th') H := hPm
  have hDm : va_D (lA s) (wM cZ bd (nI ν) (nI (allN ν)) th') := hDm
  have hap : apt (wM cZ bd (nI ν) (nI (allN ν)) th') (wL cI cB ad (nI ν) (nI (allN ν)) at_' tg' ac re un ch fa fr fu fg ft se' kd rg) := hap
  obtain ⟨er, hLI⟩ := law_withdraw hLI hw1 hw2
  refine lv_icmp_eq (tgt := 319) hx hb dL_law_153 (by decide) (fun _ => ?_) (fun c_ => absurd er c_)
  exact K at_' tg' ac re un ch fa fr fu fg ft se' kd rg th' hLI H locs hP hPm hD hDm hap.symm hS
set_option maxHeartbeats 4000000 in
set_option maxRecDepth 100000 in
theorem arm_attacks {p : Program} {l : Launch} {e : Env} {s : State} {m : MethodId} {below : List Frame} {meth : Method} {c : Code} {b L : Nat} {xs : Nat → Int32} {dC : Nat → ClassId} {dI : Nat → Nat → Nat} {cI cB cZ : ClassId} {ad bd : Nat → Nat} {ν : Nat} (hL : L ≤ 193) (C0 : lw_At p s m meth c b L xs) (hv : ν ≤ 8) (hK : va_K (dC, dI) cl2 (tyL cI cB) s) (hKm : va_K (dC, dI) cl2 (tyM cZ) s) {k : Nat} (hk : k + 3 ≤ L) {ls : Array Slot} (hl : lv_has ls 4 [(0, .ref b), (1, .ref (ad 0)), (2, .ref (bd 0)), (3, .int (nI k))]) (K : lAt p l e s m below meth c b dC dI cI cB cZ ad bd ν ls 319) : lAt p l e s m below meth c b dC dI cI cB cZ ad bd ν ls 158 := by
  obtain ⟨hx, hb, hr, hml, hown, hts0, hX, hbl, hlocks, hgv⟩ := C0
  have hown : s.vm.findClass RX0 = some m.cls := hown
  have hts : ∀ w ∈ lw_all, w.before #[Value.ref b] s = true := fun w h => hts0 w (lw_all_tbl h)
  have hA : ∀ q : Nat, s.heap.size ≤ q → lA s q := fun _ h => h
  have hbA : ¬ lA s b := Nat.not_le.mpr hbl
  intro at_ tg ac re un ch fa fr fu fg ft se kd rg th hLI H locs hP hPm hD hDm hap hS
  refine lv_aload_n hx hb dL_law_158 rfl (lv_at hl 1 rfl) ?_
  refine lv_aload_n hx hb dL_law_159 rfl (lv_at hl 0 rfl) ?_
  refine lv_iload_n hx hb dL_law_160 rfl (lv_at hl 3 rfl) ?_
  refine lv_iconst (v := 1) hx hb dL_law_161 (by decide) ?_
  refine lv_iadd hx hb dL_law_162 ?_
  refine lsld hx hb hX hbl hbA hS (k + 1) (nI_add k 1) (by omega) hL dL_law_163 ?_
  refine lv_aload_n hx hb dL_law_164 rfl (lv_at hl 0 rfl) ?_
  refine lv_iload_n hx hb dL_law_165 rfl (lv_at hl 3 rfl) ?_
  refine lv_iconst (v := 2) hx hb dL_law_166 (by decide) ?_
  refine lv_iadd hx hb dL_law_167 ?_
  refine lsld hx hb hX hbl hbA hS (k + 2) (nI_add k 2) (by omega) hL dL_law_168 ?_
  refine hcalli (As := [.int (xs (k + 1)), .int (xs (k + 2))]) (rest := []) ⟨hx, hb, hml, hown, hts⟩ (metX1_attacks l dC dI cI cB ad H.size (nI ν) (nI (allN ν)) at_ tg ac re un ch fa fr fu fg ft se kd rg ν (xs (k + 1)) (xs (k + 2)) rfl hv) (cwl_X1_attacks hts ⟨Nat.le_of_ble_eq_true rfl, Nat.le_of_ble_eq_true rfl⟩) hK hP hPm hD hap hS hA (ci := 0) (q0 := 0) rfl rfl hl.1 rfl (Nat.le_of_ble_eq_true rfl) dL_law_169 ⟨Nat.le_of_ble_eq_true rfl, Nat.le_of_ble_eq_true rfl⟩ (fun r1 u H locs hw1 hP hPm hD hap hS => ?_)
  refine lv_aload_n hx hb dL_law_172 rfl (lv_at hl 2 rfl) ?_
  refine lv_aload_n hx hb dL_law_173 rfl (lv_at hl 0 rfl) ?_
  refine lv_iload_n hx hb dL_law_174 rfl (lv_at hl 3 rfl) ?_
  refine lv_iconst (v := 1) hx hb dL_law_175 (by decide) ?_
  refine lv_iadd hx hb dL_law_176 ?_
  refine lsld hx hb hX hbl hbA hS (k + 1) (nI_add k 1) (by omega) hL dL_law_177 ?_
  refine lv_aload_n hx hb dL_law_178 rfl (lv_at hl 0 rfl) ?_
  refine lv_iload_n hx hb dL_law_179 rfl (lv_at hl 3 rfl) ?_
  refine lv_iconst (v := 2) hx hb dL_law_180 (by decide) ?_
  refine lv_iadd hx hb dL_law_181 ?_
  refine lsld hx hb hX hbl hbA hS (k + 2) (nI_add k 2) (by omega) hL dL_law_182 ?_
  refine hcalli (As := [.int (xs (k + 1)), .int (xs (k + 2))]) (rest := [.int r1]) ⟨hx, hb, hml, hown, hts⟩ (metX2_attacks l dC dI cZ bd H.size (nI ν) (nI (allN ν)) th ν (xs (k + 1)) (xs (k + 2)) rfl hv) (cwl_X2_attacks hts ⟨Nat.le_of_ble_eq_true rfl, Nat.le_of_ble_eq_true rfl⟩) hKm hPm hP hDm hap.symm hS hA (ci := 1) (q0 := 0) rfl rfl hl.1 rfl (Nat.le_of_ble_eq_true rfl) dL_law_183 ⟨Nat.le_of_ble_eq_true rfl, Nat.le_of_ble_eq_true rfl⟩ (fun r2 _ H locs hw2 hPm hP hDm hap hS => ?_)
  have hPm : va_P (dC, dI) cl2 (wM cZ bd (nI ν) (nI (allN ν)) th) H := hPm
  have hDm : va_D (lA s) (wM cZ bd (nI ν) (nI (allN ν)) th) := hDm
  have hap : apt (wM cZ bd (nI ν) (nI (allN ν)) th) (wL cI cB ad (nI ν) (nI (allN ν)) at_ tg ac re un ch fa fr fu fg ft se kd rg) := hap
  have er := law_attacks hLI hw1 hw2
  refine lv_icmp_eq (tgt := 319) hx hb dL_law_186 (by decide) (fun _ => ?_) (fun c_ => absurd er c_)
  exact K at_ tg ac re un ch fa fr fu fg ft se kd rg th hLI H locs hP hPm hD hDm hap.symm hS
set_option maxHeartbeats 4000000 in
set_option maxRecDepth 100000 in
theorem arm_grounded {p : Program} {l : Launch} {e : Env} {s : State} {m : MethodId} {below : List Frame} {meth : Method} {c : Code} {b L : Nat} {xs : Nat → Int32} {dC : Nat → ClassId} {dI : Nat → Nat → Nat} {cI cB cZ : ClassId} {ad bd : Nat → Nat} {ν : Nat} (hL : L ≤ 193) (C0 : lw_At p s m meth c b L xs) (hv : ν ≤ 8) (hK : va_K (dC, dI) cl2 (tyL cI cB) s) (hKm : va_K (dC, dI) cl2 (tyM cZ) s) {k : Nat} (hk : k + 3 ≤ L) {ls : Array Slot} (hl : lv_has ls 4 [(0, .ref b), (1, .ref (ad 0)), (2, .ref (bd 0)), (3, .int (nI k))]) (K : lAt p l e s m below meth c b dC dI cI cB cZ ad bd ν ls 319) : lAt p l e s m below meth c b dC dI cI cB cZ ad bd ν ls 191 := by
  obtain ⟨hx, hb, hr, hml, hown, hts0, hX, hbl, hlocks, hgv⟩ := C0
  have hown : s.vm.findClass RX0 = some m.cls := hown
  have hts : ∀ w ∈ lw_all, w.before #[Value.ref b] s = true := fun w h => hts0 w (lw_all_tbl h)
  have hA : ∀ q : Nat, s.heap.size ≤ q → lA s q := fun _ h => h
  have hbA : ¬ lA s b := Nat.not_le.mpr hbl
  intro at_ tg ac re un ch fa fr fu fg ft se kd rg th hLI H locs hP hPm hD hDm hap hS
  refine lv_aload_n hx hb dL_law_191 rfl (lv_at hl 1 rfl) ?_
  refine hcalli (As := []) (rest := []) ⟨hx, hb, hml, hown, hts⟩ (metX1_grounded l dC dI cI cB ad H.size (nI ν) (nI (allN ν)) at_ tg ac re un ch fa fr fu fg ft se kd rg ν  rfl hLI.2.2.1) (cwl_X1_grounded hts ⟨Nat.le_of_ble_eq_true rfl, Nat.le_of_ble_eq_true rfl⟩) hK hP hPm hD hap hS hA (ci := 0) (q0 := 0) rfl rfl hl.1 rfl (Nat.le_of_ble_eq_true rfl) dL_law_192 ⟨Nat.le_of_ble_eq_true rfl, Nat.le_of_ble_eq_true rfl⟩ (fun r1 u H locs hw1 hP hPm hD hap hS => ?_)
  obtain ⟨ac', re', ch'⟩ := u
  have hP : va_P (dC, dI) cl2 (wL cI cB ad (nI ν) (nI (allN ν)) at_ tg ac' re' un ch' fa fr fu fg ft se kd rg) H := hP
  have hD : va_D (lA s) (wL cI cB ad (nI ν) (nI (allN ν)) at_ tg ac' re' un ch' fa fr fu fg ft se kd rg) := hD
  have hap : apt (wL cI cB ad (nI ν) (nI (allN ν)) at_ tg ac' re' un ch' fa fr fu fg ft se kd rg) (wM cZ bd (nI ν) (nI (allN ν)) th) := hap
  refine lv_aload_n hx hb dL_law_195 rfl (lv_at hl 2 rfl) ?_
  refine hcalli (As := []) (rest := [.int r1]) ⟨hx, hb, hml, hown, hts⟩ (metX2_grounded l dC dI cZ bd H.size (nI ν) th (allN ν)  (allN_lt ν hv)) (cwl_X2_grounded hts ⟨Nat.le_of_ble_eq_true rfl, Nat.le_of_ble_eq_true rfl⟩) hKm hPm hP hDm hap.symm hS hA (ci := 1) (q0 := 0) rfl rfl hl.1 rfl (Nat.le_of_ble_eq_true rfl) dL_law_196 ⟨Nat.le_of_ble_eq_true rfl, Nat.le_of_ble_eq_true rfl⟩ (fun r2 _ H locs hw2 hPm hP hDm hap hS => ?_)
  have hPm : va_P (dC, dI) cl2 (wM cZ bd (nI ν) (nI (allN ν)) th) H := hPm
  have hDm : va_D (lA s) (wM cZ bd (nI ν) (nI (allN ν)) th) := hDm
  have hap : apt (wM cZ bd (nI ν) (nI (allN ν)) th) (wL cI cB ad (nI ν) (nI (allN ν)) at_ tg ac' re' un ch' fa fr fu fg ft se kd rg) := hap
  have er := law_grounded hLI hw1 hw2
  refine lv_icmp_eq (tgt := 319) hx hb dL_law_199 (by decide) (fun _ => ?_) (fun c_ => absurd er c_)
  exact K at_ tg ac' re' un ch' fa fr fu fg ft se kd rg th hLI H locs hP hPm hD hDm hap.symm hS
set_option maxHeartbeats 4000000 in
set_option maxRecDepth 100000 in
theorem arm_count {p : Program} {l : Launch} {e : Env} {s : State} {m : MethodId} {below : List Frame} {meth : Method} {c : Code} {b L : Nat} {xs : Nat → Int32} {dC : Nat → ClassId} {dI : Nat → Nat → Nat} {cI cB cZ : ClassId} {ad bd : Nat → Nat} {ν : Nat} (hL : L ≤ 193) (C0 : lw_At p s m meth c b L xs) (hv : ν ≤ 8) (hK : va_K (dC, dI) cl2 (tyL cI cB) s) (hKm : va_K (dC, dI) cl2 (tyM cZ) s) {k : Nat} (hk : k + 3 ≤ L) {ls : Array Slot} (hl : lv_has ls 4 [(0, .ref b), (1, .ref (ad 0)), (2, .ref (bd 0)), (3, .int (nI k))]) (K : lAt p l e s m below meth c b dC dI cI cB cZ ad bd ν ls 319) : lAt p l e s m below meth c b dC dI cI cB cZ ad bd ν ls 204 := by
  obtain ⟨hx, hb, hr, hml, hown, hts0, hX, hbl, hlocks, hgv⟩ := C0
  have hown : s.vm.findClass RX0 = some m.cls := hown
  have hts : ∀ w ∈ lw_all, w.before #[Value.ref b] s = true := fun w h => hts0 w (lw_all_tbl h)
  have hA : ∀ q : Nat, s.heap.size ≤ q → lA s q := fun _ h => h
  have hbA : ¬ lA s b := Nat.not_le.mpr hbl
  intro at_ tg ac re un ch fa fr fu fg ft se kd rg th hLI H locs hP hPm hD hDm hap hS
  refine lv_aload_n hx hb dL_law_204 rfl (lv_at hl 1 rfl) ?_
  refine lv_aload_n hx hb dL_law_205 rfl (lv_at hl 0 rfl) ?_
  refine lv_iload_n hx hb dL_law_206 rfl (lv_at hl 3 rfl) ?_
  refine lv_iconst (v := 1) hx hb dL_law_207 (by decide) ?_
  refine lv_iadd hx hb dL_law_208 ?_
  refine lsld hx hb hX hbl hbA hS (k + 1) (nI_add k 1) (by omega) hL dL_law_209 ?_
  refine hcalli (As := [.int (xs (k + 1))]) (rest := []) ⟨hx, hb, hml, hown, hts⟩ (metX1_count l dC dI cI cB ad H.size (nI ν) (nI (allN ν)) at_ tg ac re un ch fa fr fu fg ft se kd rg ν (xs (k + 1)) rfl rfl hLI.2.2.1 hLI.2.2.2.1) (cwl_X1_count hts ⟨Nat.le_of_ble_eq_true rfl, Nat.le_of_ble_eq_true rfl⟩) hK hP hPm hD hap hS hA (ci := 0) (q0 := 0) rfl rfl hl.1 rfl (Nat.le_of_ble_eq_true rfl) dL_law_210 ⟨Nat.le_of_ble_eq_true rfl, Nat.le_of_ble_eq_true rfl⟩ (fun r1 u H locs hw1 hP hPm hD hap hS => ?_)
  obtain ⟨ac', re', un', ch', fa', fr', fu', fg', ft', se', kd', rg'⟩ := u
  have hP : va_P (dC, dI) cl2 (wL cI cB ad (nI ν) (nI (allN ν)) at_ tg ac' re' un' ch' fa' fr' fu' fg' ft' se' kd' rg') H := hP
  have hD : va_D (lA s) (wL cI cB ad (nI ν) (nI (allN ν)) at_ tg ac' re' un' ch' fa' fr' fu' fg' ft' se' kd' rg') := hD
  have hap : apt (wL cI cB ad (nI ν) (nI (allN ν)) at_ tg ac' re' un' ch' fa' fr' fu' fg' ft' se' kd' rg') (wM cZ bd (nI ν) (nI (allN ν)) th) := hap
  refine lv_aload_n hx hb dL_law_213 rfl (lv_at hl 2 rfl) ?_
  refine lv_aload_n hx hb dL_law_214 rfl (lv_at hl 0 rfl) ?_
  refine lv_iload_n hx hb dL_law_215 rfl (lv_at hl 3 rfl) ?_
  refine lv_iconst (v := 1) hx hb dL_law_216 (by decide) ?_
  refine lv_iadd hx hb dL_law_217 ?_
  refine lsld hx hb hX hbl hbA hS (k + 1) (nI_add k 1) (by omega) hL dL_law_218 ?_
  refine hcalli (As := [.int (xs (k + 1))]) (rest := [.int r1]) ⟨hx, hb, hml, hown, hts⟩ (metX2_count l dC dI cZ bd H.size (nI ν) th (allN ν) (xs (k + 1)) (allN_lt ν hv)) (cwl_X2_count hts ⟨Nat.le_of_ble_eq_true rfl, Nat.le_of_ble_eq_true rfl⟩) hKm hPm hP hDm hap.symm hS hA (ci := 1) (q0 := 0) rfl rfl hl.1 rfl (Nat.le_of_ble_eq_true rfl) dL_law_219 ⟨Nat.le_of_ble_eq_true rfl, Nat.le_of_ble_eq_true rfl⟩ (fun r2 _ H locs hw2 hPm hP hDm hap hS => ?_)
  have hPm : va_P (dC, dI) cl2 (wM cZ bd (nI ν) (nI (allN ν)) th) H := hPm
  have hDm : va_D (lA s) (wM cZ bd (nI ν) (nI (allN ν)) th) := hDm
  have hap : apt (wM cZ bd (nI ν) (nI (allN ν)) th) (wL cI cB ad (nI ν) (nI (allN ν)) at_ tg ac' re' un' ch' fa' fr' fu' fg' ft' se' kd' rg') := hap
  have hw1 : x_ans ν (Rl tg) (xs (k + 1)) r1 (fun r => r = nI (g_cnt (xP ν (Rl tg) (xs (k + 1))) 256)) se' kd' := hw1
  obtain ⟨er, hLI⟩ := law_ans (Z := fun r => r = nI (g_cnt (xP ν (Rl tg) (xs (k + 1))) 256)) (Z2 := fun r => r = nI (g_cnt (mP th (allN ν) (xs (k + 1))) (allN ν + 1))) hLI (fun hk h1 h2 => law_count hLI hk h1 h2) hw1 hw2
  refine lv_icmp_eq (tgt := 319) hx hb dL_law_222 (by decide) (fun _ => ?_) (fun c_ => absurd er c_)
  exact K at_ tg ac' re' un' ch' fa' fr' fu' fg' ft' se' kd' rg' th hLI H locs hP hPm hD hDm hap.symm hS
set_option maxHeartbeats 4000000 in
set_option maxRecDepth 100000 in
theorem arm_extension {p : Program} {l : Launch} {e : Env} {s : State} {m : MethodId} {below : List Frame} {meth : Method} {c : Code} {b L : Nat} {xs : Nat → Int32} {dC : Nat → ClassId} {dI : Nat → Nat → Nat} {cI cB cZ : ClassId} {ad bd : Nat → Nat} {ν : Nat} (hL : L ≤ 193) (C0 : lw_At p s m meth c b L xs) (hv : ν ≤ 8) (hK : va_K (dC, dI) cl2 (tyL cI cB) s) (hKm : va_K (dC, dI) cl2 (tyM cZ) s) {k : Nat} (hk : k + 3 ≤ L) {ls : Array Slot} (hl : lv_has ls 4 [(0, .ref b), (1, .ref (ad 0)), (2, .ref (bd 0)), (3, .int (nI k))]) (K : lAt p l e s m below meth c b dC dI cI cB cZ ad bd ν ls 319) : lAt p l e s m below meth c b dC dI cI cB cZ ad bd ν ls 227 := by
  obtain ⟨hx, hb, hr, hml, hown, hts0, hX, hbl, hlocks, hgv⟩ := C0
  have hown : s.vm.findClass RX0 = some m.cls := hown
  have hts : ∀ w ∈ lw_all, w.before #[Value.ref b] s = true := fun w h => hts0 w (lw_all_tbl h)
  have hA : ∀ q : Nat, s.heap.size ≤ q → lA s q := fun _ h => h
  have hbA : ¬ lA s b := Nat.not_le.mpr hbl
  intro at_ tg ac re un ch fa fr fu fg ft se kd rg th hLI H locs hP hPm hD hDm hap hS
  refine lv_aload_n hx hb dL_law_227 rfl (lv_at hl 1 rfl) ?_
  refine lv_aload_n hx hb dL_law_228 rfl (lv_at hl 0 rfl) ?_
  refine lv_iload_n hx hb dL_law_229 rfl (lv_at hl 3 rfl) ?_
  refine lv_iconst (v := 1) hx hb dL_law_230 (by decide) ?_
  refine lv_iadd hx hb dL_law_231 ?_
  refine lsld hx hb hX hbl hbA hS (k + 1) (nI_add k 1) (by omega) hL dL_law_232 ?_
  refine lv_aload_n hx hb dL_law_233 rfl (lv_at hl 0 rfl) ?_
  refine lv_iload_n hx hb dL_law_234 rfl (lv_at hl 3 rfl) ?_
  refine lv_iconst (v := 2) hx hb dL_law_235 (by decide) ?_
  refine lv_iadd hx hb dL_law_236 ?_
  refine lsld hx hb hX hbl hbA hS (k + 2) (nI_add k 2) (by omega) hL dL_law_237 ?_
  refine hcalli (As := [.int (xs (k + 1)), .int (xs (k + 2))]) (rest := []) ⟨hx, hb, hml, hown, hts⟩ (metX1_extension l dC dI cI cB ad H.size (nI ν) (nI (allN ν)) at_ tg ac re un ch fa fr fu fg ft se kd rg ν (xs (k + 1)) (xs (k + 2)) rfl rfl hLI.2.2.1 hLI.2.2.2.1) (cwl_X1_extension hts ⟨Nat.le_of_ble_eq_true rfl, Nat.le_of_ble_eq_true rfl⟩) hK hP hPm hD hap hS hA (ci := 0) (q0 := 0) rfl rfl hl.1 rfl (Nat.le_of_ble_eq_true rfl) dL_law_238 ⟨Nat.le_of_ble_eq_true rfl, Nat.le_of_ble_eq_true rfl⟩ (fun r1 u H locs hw1 hP hPm hD hap hS => ?_)
  obtain ⟨ac', re', un', ch', fa', fr', fu', fg', ft', se', kd', rg'⟩ := u
  have hP : va_P (dC, dI) cl2 (wL cI cB ad (nI ν) (nI (allN ν)) at_ tg ac' re' un' ch' fa' fr' fu' fg' ft' se' kd' rg') H := hP
  have hD : va_D (lA s) (wL cI cB ad (nI ν) (nI (allN ν)) at_ tg ac' re' un' ch' fa' fr' fu' fg' ft' se' kd' rg') := hD
  have hap : apt (wL cI cB ad (nI ν) (nI (allN ν)) at_ tg ac' re' un' ch' fa' fr' fu' fg' ft' se' kd' rg') (wM cZ bd (nI ν) (nI (allN ν)) th) := hap
  refine lv_aload_n hx hb dL_law_241 rfl (lv_at hl 2 rfl) ?_
  refine lv_aload_n hx hb dL_law_242 rfl (lv_at hl 0 rfl) ?_
  refine lv_iload_n hx hb dL_law_243 rfl (lv_at hl 3 rfl) ?_
  refine lv_iconst (v := 1) hx hb dL_law_244 (by decide) ?_
  refine lv_iadd hx hb dL_law_245 ?_
  refine lsld hx hb hX hbl hbA hS (k + 1) (nI_add k 1) (by omega) hL dL_law_246 ?_
  refine lv_aload_n hx hb dL_law_247 rfl (lv_at hl 0 rfl) ?_
  refine lv_iload_n hx hb dL_law_248 rfl (lv_at hl 3 rfl) ?_
  refine lv_iconst (v := 2) hx hb dL_law_249 (by decide) ?_
  refine lv_iadd hx hb dL_law_250 ?_
  refine lsld hx hb hX hbl hbA hS (k + 2) (nI_add k 2) (by omega) hL dL_law_251 ?_
  refine hcalli (As := [.int (xs (k + 1)), .int (xs (k + 2))]) (rest := [.int r1]) ⟨hx, hb, hml, hown, hts⟩ (metX2_extension l dC dI cZ bd H.size (nI ν) th (allN ν) (xs (k + 1)) (xs (k + 2)) (allN_lt ν hv)) (cwl_X2_extension hts ⟨Nat.le_of_ble_eq_true rfl, Nat.le_of_ble_eq_true rfl⟩) hKm hPm hP hDm hap.symm hS hA (ci := 1) (q0 := 0) rfl rfl hl.1 rfl (Nat.le_of_ble_eq_true rfl) dL_law_252 ⟨Nat.le_of_ble_eq_true rfl, Nat.le_of_ble_eq_true rfl⟩ (fun r2 _ H locs hw2 hPm hP hDm hap hS => ?_)
  have hPm : va_P (dC, dI) cl2 (wM cZ bd (nI ν) (nI (allN ν)) th) H := hPm
  have hDm : va_D (lA s) (wM cZ bd (nI ν) (nI (allN ν)) th) := hDm
  have hap : apt (wM cZ bd (nI ν) (nI (allN ν)) th) (wL cI cB ad (nI ν) (nI (allN ν)) at_ tg ac' re' un' ch' fa' fr' fu' fg' ft' se' kd' rg') := hap
  have hw1 : x_ans ν (Rl tg) (xs (k + 1)) r1 (fun r => g_ext (xP ν (Rl tg) (xs (k + 1))) 256 (xs (k + 2)) r) se' kd' := hw1
  obtain ⟨er, hLI⟩ := law_ans (Z := fun r => g_ext (xP ν (Rl tg) (xs (k + 1))) 256 (xs (k + 2)) r) (Z2 := fun r => g_ext (mP th (allN ν) (xs (k + 1))) (allN ν + 1) (xs (k + 2)) r) hLI (fun hk h1 h2 => law_ext hLI hk h1 h2) hw1 hw2
  refine lv_icmp_eq (tgt := 319) hx hb dL_law_255 (by decide) (fun _ => ?_) (fun c_ => absurd er c_)
  exact K at_ tg ac' re' un' ch' fa' fr' fu' fg' ft' se' kd' rg' th hLI H locs hP hPm hD hDm hap.symm hS
set_option maxHeartbeats 4000000 in
set_option maxRecDepth 100000 in
theorem arm_inSome {p : Program} {l : Launch} {e : Env} {s : State} {m : MethodId} {below : List Frame} {meth : Method} {c : Code} {b L : Nat} {xs : Nat → Int32} {dC : Nat → ClassId} {dI : Nat → Nat → Nat} {cI cB cZ : ClassId} {ad bd : Nat → Nat} {ν : Nat} (hL : L ≤ 193) (C0 : lw_At p s m meth c b L xs) (hv : ν ≤ 8) (hK : va_K (dC, dI) cl2 (tyL cI cB) s) (hKm : va_K (dC, dI) cl2 (tyM cZ) s) {k : Nat} (hk : k + 3 ≤ L) {ls : Array Slot} (hl : lv_has ls 4 [(0, .ref b), (1, .ref (ad 0)), (2, .ref (bd 0)), (3, .int (nI k))]) (K : lAt p l e s m below meth c b dC dI cI cB cZ ad bd ν ls 319) : lAt p l e s m below meth c b dC dI cI cB cZ ad bd ν ls 260 := by
  obtain ⟨hx, hb, hr, hml, hown, hts0, hX, hbl, hlocks, hgv⟩ := C0
  have hown : s.vm.findClass RX0 = some m.cls := hown
  have hts : ∀ w ∈ lw_all, w.before #[Value.ref b] s = true := fun w h => hts0 w (lw_all_tbl h)
  have hA : ∀ q : Nat, s.heap.size ≤ q → lA s q := fun _ h => h
  have hbA : ¬ lA s b := Nat.not_le.mpr hbl
  intro at_ tg ac re un ch fa fr fu fg ft se kd rg th hLI H locs hP hPm hD hDm hap hS
  refine lv_aload_n hx hb dL_law_260 rfl (lv_at hl 1 rfl) ?_
  refine lv_aload_n hx hb dL_law_261 rfl (lv_at hl 0 rfl) ?_
  refine lv_iload_n hx hb dL_law_262 rfl (lv_at hl 3 rfl) ?_
  refine lv_iconst (v := 1) hx hb dL_law_263 (by decide) ?_
  refine lv_iadd hx hb dL_law_264 ?_
  refine lsld hx hb hX hbl hbA hS (k + 1) (nI_add k 1) (by omega) hL dL_law_265 ?_
  refine hcalli (As := [.int (xs (k + 1))]) (rest := []) ⟨hx, hb, hml, hown, hts⟩ (metX1_inSome l dC dI cI cB ad H.size (nI ν) (nI (allN ν)) at_ tg ac re un ch fa fr fu fg ft se kd rg ν (xs (k + 1)) rfl rfl hLI.2.2.1 hLI.2.2.2.1) (cwl_X1_inSome hts ⟨Nat.le_of_ble_eq_true rfl, Nat.le_of_ble_eq_true rfl⟩) hK hP hPm hD hap hS hA (ci := 0) (q0 := 0) rfl rfl hl.1 rfl (Nat.le_of_ble_eq_true rfl) dL_law_266 ⟨Nat.le_of_ble_eq_true rfl, Nat.le_of_ble_eq_true rfl⟩ (fun r1 u H locs hw1 hP hPm hD hap hS => ?_)
  obtain ⟨ac', re', un', ch', fa', fr', fu', fg', ft', se', kd', rg'⟩ := u
  have hP : va_P (dC, dI) cl2 (wL cI cB ad (nI ν) (nI (allN ν)) at_ tg ac' re' un' ch' fa' fr' fu' fg' ft' se' kd' rg') H := hP
  have hD : va_D (lA s) (wL cI cB ad (nI ν) (nI (allN ν)) at_ tg ac' re' un' ch' fa' fr' fu' fg' ft' se' kd' rg') := hD
  have hap : apt (wL cI cB ad (nI ν) (nI (allN ν)) at_ tg ac' re' un' ch' fa' fr' fu' fg' ft' se' kd' rg') (wM cZ bd (nI ν) (nI (allN ν)) th) := hap
  refine lv_aload_n hx hb dL_law_269 rfl (lv_at hl 2 rfl) ?_
  refine lv_aload_n hx hb dL_law_270 rfl (lv_at hl 0 rfl) ?_
  refine lv_iload_n hx hb dL_law_271 rfl (lv_at hl 3 rfl) ?_
  refine lv_iconst (v := 1) hx hb dL_law_272 (by decide) ?_
  refine lv_iadd hx hb dL_law_273 ?_
  refine lsld hx hb hX hbl hbA hS (k + 1) (nI_add k 1) (by omega) hL dL_law_274 ?_
  refine hcalli (As := [.int (xs (k + 1))]) (rest := [.int r1]) ⟨hx, hb, hml, hown, hts⟩ (metX2_inSome l dC dI cZ bd H.size (nI ν) th (allN ν) (xs (k + 1)) (allN_lt ν hv)) (cwl_X2_inSome hts ⟨Nat.le_of_ble_eq_true rfl, Nat.le_of_ble_eq_true rfl⟩) hKm hPm hP hDm hap.symm hS hA (ci := 1) (q0 := 0) rfl rfl hl.1 rfl (Nat.le_of_ble_eq_true rfl) dL_law_275 ⟨Nat.le_of_ble_eq_true rfl, Nat.le_of_ble_eq_true rfl⟩ (fun r2 _ H locs hw2 hPm hP hDm hap hS => ?_)
  have hPm : va_P (dC, dI) cl2 (wM cZ bd (nI ν) (nI (allN ν)) th) H := hPm
  have hDm : va_D (lA s) (wM cZ bd (nI ν) (nI (allN ν)) th) := hDm
  have hap : apt (wM cZ bd (nI ν) (nI (allN ν)) th) (wL cI cB ad (nI ν) (nI (allN ν)) at_ tg ac' re' un' ch' fa' fr' fu' fg' ft' se' kd' rg') := hap
  have hw1 : x_ans ν (Rl tg) (xs (k + 1)) r1 (fun r => r = g_or (xP ν (Rl tg) (xs (k + 1))) 256) se' kd' := hw1
  obtain ⟨er, hLI⟩ := law_ans (Z := fun r => r = g_or (xP ν (Rl tg) (xs (k + 1))) 256) (Z2 := fun r => r = g_or (mP th (allN ν) (xs (k + 1))) (allN ν + 1)) hLI (fun hk h1 h2 => law_some hLI hk h1 h2) hw1 hw2
  refine lv_icmp_eq (tgt := 319) hx hb dL_law_278 (by decide) (fun _ => ?_) (fun c_ => absurd er c_)
  exact K at_ tg ac' re' un' ch' fa' fr' fu' fg' ft' se' kd' rg' th hLI H locs hP hPm hD hDm hap.symm hS
set_option maxHeartbeats 4000000 in
set_option maxRecDepth 100000 in
theorem arm_inEvery {p : Program} {l : Launch} {e : Env} {s : State} {m : MethodId} {below : List Frame} {meth : Method} {c : Code} {b L : Nat} {xs : Nat → Int32} {dC : Nat → ClassId} {dI : Nat → Nat → Nat} {cI cB cZ : ClassId} {ad bd : Nat → Nat} {ν : Nat} (hL : L ≤ 193) (C0 : lw_At p s m meth c b L xs) (hv : ν ≤ 8) (hK : va_K (dC, dI) cl2 (tyL cI cB) s) (hKm : va_K (dC, dI) cl2 (tyM cZ) s) {k : Nat} (hk : k + 3 ≤ L) {ls : Array Slot} (hl : lv_has ls 4 [(0, .ref b), (1, .ref (ad 0)), (2, .ref (bd 0)), (3, .int (nI k))]) (K : lAt p l e s m below meth c b dC dI cI cB cZ ad bd ν ls 319) : lAt p l e s m below meth c b dC dI cI cB cZ ad bd ν ls 283 := by
  obtain ⟨hx, hb, hr, hml, hown, hts0, hX, hbl, hlocks, hgv⟩ := C0
  have hown : s.vm.findClass RX0 = some m.cls := hown
  have hts : ∀ w ∈ lw_all, w.before #[Value.ref b] s = true := fun w h => hts0 w (lw_all_tbl h)
  have hA : ∀ q : Nat, s.heap.size ≤ q → lA s q := fun _ h => h
  have hbA : ¬ lA s b := Nat.not_le.mpr hbl
  intro at_ tg ac re un ch fa fr fu fg ft se kd rg th hLI H locs hP hPm hD hDm hap hS
  refine lv_aload_n hx hb dL_law_283 rfl (lv_at hl 1 rfl) ?_
  refine lv_aload_n hx hb dL_law_284 rfl (lv_at hl 0 rfl) ?_
  refine lv_iload_n hx hb dL_law_285 rfl (lv_at hl 3 rfl) ?_
  refine lv_iconst (v := 1) hx hb dL_law_286 (by decide) ?_
  refine lv_iadd hx hb dL_law_287 ?_
  refine lsld hx hb hX hbl hbA hS (k + 1) (nI_add k 1) (by omega) hL dL_law_288 ?_
  refine hcalli (As := [.int (xs (k + 1))]) (rest := []) ⟨hx, hb, hml, hown, hts⟩ (metX1_inEvery l dC dI cI cB ad H.size (nI ν) (nI (allN ν)) at_ tg ac re un ch fa fr fu fg ft se kd rg ν (xs (k + 1)) rfl rfl hLI.2.2.1 hLI.2.2.2.1) (cwl_X1_inEvery hts ⟨Nat.le_of_ble_eq_true rfl, Nat.le_of_ble_eq_true rfl⟩) hK hP hPm hD hap hS hA (ci := 0) (q0 := 0) rfl rfl hl.1 rfl (Nat.le_of_ble_eq_true rfl) dL_law_289 ⟨Nat.le_of_ble_eq_true rfl, Nat.le_of_ble_eq_true rfl⟩ (fun r1 u H locs hw1 hP hPm hD hap hS => ?_)
  obtain ⟨ac', re', un', ch', fa', fr', fu', fg', ft', se', kd', rg'⟩ := u
  have hP : va_P (dC, dI) cl2 (wL cI cB ad (nI ν) (nI (allN ν)) at_ tg ac' re' un' ch' fa' fr' fu' fg' ft' se' kd' rg') H := hP
  have hD : va_D (lA s) (wL cI cB ad (nI ν) (nI (allN ν)) at_ tg ac' re' un' ch' fa' fr' fu' fg' ft' se' kd' rg') := hD
  have hap : apt (wL cI cB ad (nI ν) (nI (allN ν)) at_ tg ac' re' un' ch' fa' fr' fu' fg' ft' se' kd' rg') (wM cZ bd (nI ν) (nI (allN ν)) th) := hap
  refine lv_aload_n hx hb dL_law_292 rfl (lv_at hl 2 rfl) ?_
  refine lv_aload_n hx hb dL_law_293 rfl (lv_at hl 0 rfl) ?_
  refine lv_iload_n hx hb dL_law_294 rfl (lv_at hl 3 rfl) ?_
  refine lv_iconst (v := 1) hx hb dL_law_295 (by decide) ?_
  refine lv_iadd hx hb dL_law_296 ?_
  refine lsld hx hb hX hbl hbA hS (k + 1) (nI_add k 1) (by omega) hL dL_law_297 ?_
  refine hcalli (As := [.int (xs (k + 1))]) (rest := [.int r1]) ⟨hx, hb, hml, hown, hts⟩ (metX2_inEvery l dC dI cZ bd H.size (nI ν) th (allN ν) (xs (k + 1)) (allN_lt ν hv)) (cwl_X2_inEvery hts ⟨Nat.le_of_ble_eq_true rfl, Nat.le_of_ble_eq_true rfl⟩) hKm hPm hP hDm hap.symm hS hA (ci := 1) (q0 := 0) rfl rfl hl.1 rfl (Nat.le_of_ble_eq_true rfl) dL_law_298 ⟨Nat.le_of_ble_eq_true rfl, Nat.le_of_ble_eq_true rfl⟩ (fun r2 _ H locs hw2 hPm hP hDm hap hS => ?_)
  have hPm : va_P (dC, dI) cl2 (wM cZ bd (nI ν) (nI (allN ν)) th) H := hPm
  have hDm : va_D (lA s) (wM cZ bd (nI ν) (nI (allN ν)) th) := hDm
  have hap : apt (wM cZ bd (nI ν) (nI (allN ν)) th) (wL cI cB ad (nI ν) (nI (allN ν)) at_ tg ac' re' un' ch' fa' fr' fu' fg' ft' se' kd' rg') := hap
  have hw1 : x_ans ν (Rl tg) (xs (k + 1)) r1 (fun r => r = g_an (xP ν (Rl tg) (xs (k + 1))) (nI (allN ν)) 256) se' kd' := hw1
  obtain ⟨er, hLI⟩ := law_ans (Z := fun r => r = g_an (xP ν (Rl tg) (xs (k + 1))) (nI (allN ν)) 256) (Z2 := fun r => r = g_an (mP th (allN ν) (xs (k + 1))) (nI (allN ν)) (allN ν + 1)) hLI (fun hk h1 h2 => law_every hLI hk h1 h2) hw1 hw2
  refine lv_icmp_eq (tgt := 319) hx hb dL_law_301 (by decide) (fun _ => ?_) (fun c_ => absurd er c_)
  exact K at_ tg ac' re' un' ch' fa' fr' fu' fg' ft' se' kd' rg' th hLI H locs hP hPm hD hDm hap.symm hS
set_option maxHeartbeats 4000000 in
set_option maxRecDepth 100000 in
theorem arm_clear {p : Program} {l : Launch} {e : Env} {s : State} {m : MethodId} {below : List Frame} {meth : Method} {c : Code} {b L : Nat} {xs : Nat → Int32} {dC : Nat → ClassId} {dI : Nat → Nat → Nat} {cI cB cZ : ClassId} {ad bd : Nat → Nat} {ν : Nat} (hL : L ≤ 193) (C0 : lw_At p s m meth c b L xs) (hv : ν ≤ 8) (hK : va_K (dC, dI) cl2 (tyL cI cB) s) (hKm : va_K (dC, dI) cl2 (tyM cZ) s) {k : Nat} (hk : k + 3 ≤ L) {ls : Array Slot} (hl : lv_has ls 4 [(0, .ref b), (1, .ref (ad 0)), (2, .ref (bd 0)), (3, .int (nI k))]) (K : lAt p l e s m below meth c b dC dI cI cB cZ ad bd ν ls 319) : lAt p l e s m below meth c b dC dI cI cB cZ ad bd ν ls 306 := by
  obtain ⟨hx, hb, hr, hml, hown, hts0, hX, hbl, hlocks, hgv⟩ := C0
  have hown : s.vm.findClass RX0 = some m.cls := hown
  have hts : ∀ w ∈ lw_all, w.before #[Value.ref b] s = true := fun w h => hts0 w (lw_all_tbl h)
  have hA : ∀ q : Nat, s.heap.size ≤ q → lA s q := fun _ h => h
  have hbA : ¬ lA s b := Nat.not_le.mpr hbl
  intro at_ tg ac re un ch fa fr fu fg ft se kd rg th hLI H locs hP hPm hD hDm hap hS
  refine lv_aload_n hx hb dL_law_306 rfl (lv_at hl 1 rfl) ?_
  refine hcalli (As := []) (rest := []) ⟨hx, hb, hml, hown, hts⟩ (metX1_clear l dC dI cI cB ad H.size (nI ν) (nI (allN ν)) at_ tg ac re un ch fa fr fu fg ft se kd rg ν  rfl hv) (cwl_X1_clear hts ⟨Nat.le_of_ble_eq_true rfl, Nat.le_of_ble_eq_true rfl⟩) hK hP hPm hD hap hS hA (ci := 0) (q0 := 0) rfl rfl hl.1 rfl (Nat.le_of_ble_eq_true rfl) dL_law_307 ⟨Nat.le_of_ble_eq_true rfl, Nat.le_of_ble_eq_true rfl⟩ (fun r1 u H locs hw1 hP hPm hD hap hS => ?_)
  obtain ⟨at_', tg', se'⟩ := u
  have hP : va_P (dC, dI) cl2 (wL cI cB ad (nI ν) (nI (allN ν)) at_' tg' ac re un ch fa fr fu fg ft se' kd rg) H := hP
  have hD : va_D (lA s) (wL cI cB ad (nI ν) (nI (allN ν)) at_' tg' ac re un ch fa fr fu fg ft se' kd rg) := hD
  have hap : apt (wL cI cB ad (nI ν) (nI (allN ν)) at_' tg' ac re un ch fa fr fu fg ft se' kd rg) (wM cZ bd (nI ν) (nI (allN ν)) th) := hap
  refine lv_aload_n hx hb dL_law_310 rfl (lv_at hl 2 rfl) ?_
  refine hcalli (As := []) (rest := [.int r1]) ⟨hx, hb, hml, hown, hts⟩ (metX2_clear l dC dI cZ bd H.size (nI ν) (nI (allN ν)) th  ) (cwl_X2_clear hts ⟨Nat.le_of_ble_eq_true rfl, Nat.le_of_ble_eq_true rfl⟩) hKm hPm hP hDm hap.symm hS hA (ci := 1) (q0 := 0) rfl rfl hl.1 rfl (Nat.le_of_ble_eq_true rfl) dL_law_311 ⟨Nat.le_of_ble_eq_true rfl, Nat.le_of_ble_eq_true rfl⟩ (fun r2 th' H locs hw2 hPm hP hDm hap hS => ?_)
  have hPm : va_P (dC, dI) cl2 (wM cZ bd (nI ν) (nI (allN ν)) th') H := hPm
  have hDm : va_D (lA s) (wM cZ bd (nI ν) (nI (allN ν)) th') := hDm
  have hap : apt (wM cZ bd (nI ν) (nI (allN ν)) th') (wL cI cB ad (nI ν) (nI (allN ν)) at_' tg' ac re un ch fa fr fu fg ft se' kd rg) := hap
  obtain ⟨er, hLI⟩ := law_clear hLI hw1 hw2
  refine lv_icmp_eq (tgt := 319) hx hb dL_law_314 (by decide) (fun _ => ?_) (fun c_ => absurd er c_)
  exact K at_' tg' ac re un ch fa fr fu fg ft se' kd rg th' hLI H locs hP hPm hD hDm hap.symm hS
end
section
set_option maxHeartbeats 4000000 in
set_option maxRecDepth 100000 in
theorem law_loop {p : Program} {l : Launch} {e : Env} {s : State} {m : MethodId} {below : List Frame} {meth : Method} {c : Code} {b L : Nat} {xs : Nat → Int32} {dC : Nat → ClassId} {dI : Nat → Nat → Nat} {cI cB cZ : ClassId} {ad bd : Nat → Nat} {ν : Nat} (hL : L ≤ 193) (C0 : lw_At p s m meth c b L xs) (hv : ν ≤ 8) (hK : va_K (dC, dI) cl2 (tyL cI cB) s) (hKm : va_K (dC, dI) cl2 (tyM cZ) s) : ∀ (fl k : Nat), k ≤ 200 → 200 < k + fl → ∀ (ls : Array Slot), lv_has ls 4 [(0, .ref b), (1, .ref (ad 0)), (2, .ref (bd 0)), (3, .int (nI k))] → lAt p l e s m below meth c b dC dI cI cB cZ ad bd ν ls 28 := by
  intro fl
  induction fl with
  | zero =>
    intro k h1 h2
    exact absurd h2 (by omega)
  | succ fl ih =>
    intro k hk hf ls hl
    obtain ⟨hx, hb, hr, hml, hown, hts0, hX, hbl, hlocks, hgv⟩ := id C0
    have hown : s.vm.findClass RX0 = some m.cls := hown
    have hts : ∀ w ∈ lw_all, w.before #[Value.ref b] s = true := fun w h => hts0 w (lw_all_tbl h)
    have hA : ∀ q : Nat, s.heap.size ≤ q → lA s q := fun _ h => h
    have hbA : ¬ lA s b := Nat.not_le.mpr hbl
    intro at_ tg ac re un ch fa fr fu fg ft se kd rg th hLI H locs hP hPm hD hDm hap hS
    refine lv_iload_n hx hb dL_law_28 rfl (lv_at hl 3 rfl) ?_
    refine lv_aload_n hx hb dL_law_29 rfl (lv_at hl 0 rfl) ?_
    refine va_slen hx hb hX hbl hbA hS dL_law_30 ?_
    refine lv_iconst (v := 3) hx hb dL_law_31 (by decide) ?_
    refine lv_isub hx hb dL_law_32 ?_
    refine lv_icmp_gt (tgt := 325) hx hb dL_law_33 (by decide) (fun c_1 => ?_) (fun c_1 => ?_)
    · refine lv_iconst (v := 1) hx hb dL_law_325 (by decide) ?_
      refine va_forget (fun q hq => hS.2.2 q hq) ?_
      refine W.widen (k := 600000) (n := 7290000) (Nat.le_of_ble_eq_true rfl) (Nat.le_of_ble_eq_true rfl) ?_
      exact lw_ret hx hb hr hlocks dL_law_326
    · have hk3 : k + 3 ≤ L := lim hL hk c_1
      have K : lAt p l e s m below meth c b dC dI cI cB cZ ad bd ν ls 319 := by
        intro at_ tg ac re un ch fa fr fu fg ft se kd rg th hLI H locs hP hPm hD hDm hap hS
        refine lv_iinc (v := nI (k + 3)) (lv' := [(3, .int (nI (k + 3))), (0, .ref b), (1, .ref (ad 0)), (2, .ref (bd 0))]) hx hb dL_law_319 hl (k := 3) rfl (nI_add k 3) (by decide) rfl (fun ls hl => ?_)
        refine lv_goto (tgt := 28) hx hb dL_law_322 (by decide) ?_
        exact ih (k + 3) (by omega) (by omega) ls (lv_sub hl [1, 2, 3, 0] rfl) at_ tg ac re un ch fa fr fu fg ft se kd rg th hLI H locs hP hPm hD hDm hap hS
      refine lv_aload_n hx hb dL_law_36 rfl (lv_at hl 0 rfl) ?_
      refine lv_iload_n hx hb dL_law_37 rfl (lv_at hl 3 rfl) ?_
      refine lsld hx hb hX hbl hbA hS k rfl (by omega) hL dL_law_38 ?_
      refine lv_bipush (v := 15) hx hb dL_law_39 (by decide) ?_
      refine lv_iand hx hb dL_law_41 ?_
      obtain ⟨j, hj, ej⟩ := pk_andE (xs k) (m := 15) 4 (by decide)
      refine tope ej ?_
      rcases (show j = 0 ∨ j = 1 ∨ j = 2 ∨ j = 3 ∨ j = 4 ∨ j = 5 ∨ j = 6 ∨ j = 7 ∨ j = 8 ∨ 8 < j by omega) with rfl | rfl | rfl | rfl | rfl | rfl | rfl | rfl | rfl | hj8
      · refine lv_tableIn (off := 50) (tgt := 92) hx hb dL_law_42 (by decide) (by decide) (by decide) (by decide) ?_
        exact arm_attack hL C0 hv hK hKm hk3 hl K at_ tg ac re un ch fa fr fu fg ft se kd rg th hLI H locs hP hPm hD hDm hap hS
      · refine lv_tableIn (off := 83) (tgt := 125) hx hb dL_law_42 (by decide) (by decide) (by decide) (by decide) ?_
        exact arm_withdraw hL C0 hv hK hKm hk3 hl K at_ tg ac re un ch fa fr fu fg ft se kd rg th hLI H locs hP hPm hD hDm hap hS
      · refine lv_tableIn (off := 116) (tgt := 158) hx hb dL_law_42 (by decide) (by decide) (by decide) (by decide) ?_
        exact arm_attacks hL C0 hv hK hKm hk3 hl K at_ tg ac re un ch fa fr fu fg ft se kd rg th hLI H locs hP hPm hD hDm hap hS
      · refine lv_tableIn (off := 149) (tgt := 191) hx hb dL_law_42 (by decide) (by decide) (by decide) (by decide) ?_
        exact arm_grounded hL C0 hv hK hKm hk3 hl K at_ tg ac re un ch fa fr fu fg ft se kd rg th hLI H locs hP hPm hD hDm hap hS
      · refine lv_tableIn (off := 162) (tgt := 204) hx hb dL_law_42 (by decide) (by decide) (by decide) (by decide) ?_
        exact arm_count hL C0 hv hK hKm hk3 hl K at_ tg ac re un ch fa fr fu fg ft se kd rg th hLI H locs hP hPm hD hDm hap hS
      · refine lv_tableIn (off := 185) (tgt := 227) hx hb dL_law_42 (by decide) (by decide) (by decide) (by decide) ?_
        exact arm_extension hL C0 hv hK hKm hk3 hl K at_ tg ac re un ch fa fr fu fg ft se kd rg th hLI H locs hP hPm hD hDm hap hS
      · refine lv_tableIn (off := 218) (tgt := 260) hx hb dL_law_42 (by decide) (by decide) (by decide) (by decide) ?_
        exact arm_inSome hL C0 hv hK hKm hk3 hl K at_ tg ac re un ch fa fr fu fg ft se kd rg th hLI H locs hP hPm hD hDm hap hS
      · refine lv_tableIn (off := 241) (tgt := 283) hx hb dL_law_42 (by decide) (by decide) (by decide) (by decide) ?_
        exact arm_inEvery hL C0 hv hK hKm hk3 hl K at_ tg ac re un ch fa fr fu fg ft se kd rg th hLI H locs hP hPm hD hDm hap hS
      · refine lv_tableIn (off := 264) (tgt := 306) hx hb dL_law_42 (by decide) (by decide) (by decide) (by decide) ?_
        exact arm_clear hL C0 hv hK hKm hk3 hl K at_ tg ac re un ch fa fr fu fg ft se kd rg th hLI H locs hP hPm hD hDm hap hS
      · refine lv_tableOut (tgt := 319) hx hb dL_law_42 (Or.inr (by rw [nI_toInt (by omega)]; omega)) (by decide) ?_
        exact K at_ tg ac re un ch fa fr fu fg ft se kd rg th hLI H locs hP hPm hD hDm hap hS
end
section
set_option maxHeartbeats 4000000 in
set_option maxRecDepth 100000 in
theorem whole_start {p : Program} {e : Env} {s : State} {m : MethodId} {below : List Frame} {meth : Method} {c : Code} (l : Launch) {b L : Nat} {xs : Nat → Int32} (hL : L ≤ 193) (C0 : lw_At p s m meth c b L xs) : W p l e room_1 s m #[Value.ref b] below meth c s.heap [] 0 0 (lw_Z below #[Value.ref b] s) (entryFrame m ([Value.ref b] : List Value).toArray 4) := by
  obtain ⟨hx, hb, hr, hml, hown, hts0, hX, hbl, hlocks, hgv⟩ := id C0
  have hown : s.vm.findClass RX0 = some m.cls := hown
  have hts : ∀ w ∈ lw_all, w.before #[Value.ref b] s = true := fun w h => hts0 w (lw_all_tbl h)
  have hA : ∀ q : Nat, s.heap.size ≤ q → lA s q := fun _ h => h
  have hbA : ¬ lA s b := Nat.not_le.mpr hbl
  obtain ⟨c0, iS0, hKn0⟩ := u_known (C := RX1) (T := TX1) (N := 16) (n := 16) hts0 (fun w h => lw_all_tbl (in_X1 w h)) (hts _ q22)
  obtain ⟨c1, iS1, hKn1⟩ := u_known (C := RX2) (T := TX2) (N := 3) (n := 3) hts0 (fun w h => lw_all_tbl (in_X2 w h)) (hts _ q152)
  obtain ⟨dC, dI, hKc⟩ : ∃ (dC : Nat → ClassId) (dI : Nat → Nat → Nat), ∀ (k : Nat) (q : vw_C), cl2[k]? = some q → u_Kn s q.1 q.2.1 q.2.2 (dC k) (dI k) := by
    refine ⟨fun k => if k = 0 then c0 else c1, fun k => if k = 0 then iS0 else iS1, ?_⟩
    intro k q hq
    match k, hq with
    | 0, hq => cases hq; exact hKn0
    | 1, hq => cases hq; exact hKn1
    | k + 2, hq => simp [cl2] at hq
  have hS : va_S (lA s) s.heap s.heap [] := va_S.rf
  have hK0 : va_K (dC, dI) cl2 [] s := ⟨hKc, fun k q h => by simp at h⟩
  have hP : va_P (dC, dI) cl2 [] s.heap := fun k q h => by simp at h
  have hD : va_D (lA s) [] := ⟨fun i j p q h => by simp at h, fun k q h => by simp at h⟩
  have hl := lv_entry ([.ref b]) (n := 4) (Nat.le_of_ble_eq_true rfl)
  rw [lg_entry_eq]
  generalize (lg_sl ([.ref b]) ++ List.replicate (4 - (lg_sl ([.ref b])).length) Slot.unset).toArray = ls at hl ⊢
  have hl : lv_has ls 4 [(0, .ref b)] := hl
  have hap0 : ∀ w : va_W, apt w [] := fun w i j p q _ h => by simp at h
  refine va_new (ci := 0) (fs := [.int 0, .int 0, .null, .null, .int 0, .int 0, .int 0, .int 0, .null, .null, .null, .null, .null, .int 0, .null, .null]) (C := RX1) (T := TX1) (N := 16) hx hb hts in_X1 tyX1 tyX1_ok hown (hts _ q21) (hts _ q22) (hts _ q19) hK0 hP hD hS hA rfl (fun j hj => by rcases (show j = 0 ∨ j = 1 ∨ j = 2 ∨ j = 3 ∨ j = 4 ∨ j = 5 ∨ j = 6 ∨ j = 7 ∨ j = 8 ∨ j = 9 ∨ j = 10 ∨ j = 11 ∨ j = 12 ∨ j = 13 ∨ j = 14 ∨ j = 15 by omega) with rfl | rfl | rfl | rfl | rfl | rfl | rfl | rfl | rfl | rfl | rfl | rfl | rfl | rfl | rfl | rfl <;> rfl) (Nat.le_of_ble_eq_true rfl) (Nat.le_of_ble_eq_true rfl) dL_law_0 (fun h0 H hP hD hS => ?_)
  refine W.widen (k := 1) (n := 16) (Nat.le_of_ble_eq_true rfl) (Nat.le_of_ble_eq_true rfl) ?_
  have hP : va_P (dC, dI) cl2 (w0L h0) H := hP
  have hD : va_D (lA s) (w0L h0) := hD
  refine lv_dup hx hb dL_law_3 rfl ?_
  refine lv_aload_n hx hb dL_law_4 rfl (lv_at hl 0 rfl) ?_
  refine lv_iconst (v := 0) hx hb dL_law_5 (by decide) ?_
  refine hcell (by omega) ⟨hx, hb, hml, hown, hts⟩ hX hbl hbA hP hS hA ⟨Nat.le_of_ble_eq_true rfl, Nat.le_of_ble_eq_true rfl⟩ hl.1 (Nat.le_of_ble_eq_true rfl) dL_law_6 ⟨Nat.le_of_ble_eq_true rfl, Nat.le_of_ble_eq_true rfl⟩ (fun H locs hP hS => ?_)
  refine hcallI (As := [.int (cellV L xs)]) (rest := [.ref h0]) (wo := []) ⟨hx, hb, hml, hown, hts⟩ (metX1_init l dC dI h0 H.size (cellV L xs)) (cwI 1 hts (lw_meth q25) rfl rfl rfl (hts _ q19) (hts _ q23) (hts _ q24) rfl (by decide +kernel) ⟨Nat.le_of_ble_eq_true rfl, Nat.le_of_ble_eq_true rfl⟩) hK0 hP (fun k q h => by simp at h) hD (hap0 _) hS hA hl.1 rfl (Nat.le_of_ble_eq_true rfl) dL_law_9 ⟨Nat.le_of_ble_eq_true rfl, Nat.le_of_ble_eq_true rfl⟩ (fun u H locs hw1 hP _ hD _ hK hS => ?_)
  refine W.widen (k := 10) (n := 589) (Nat.le_of_ble_eq_true rfl) (Nat.le_of_ble_eq_true rfl) ?_
  obtain ⟨cI, cB, ad⟩ := u
  have hw1 : ad 0 = h0 := hw1
  have hPx : va_P (dC, dI) cl2 (wL cI cB ad (clN (cellV L xs)) (evN (clN (cellV L xs))) (fun _ => 0) (fun _ => 0) 0 0 0 0 (fun _ => 0) (fun _ => 0) (fun _ => 0) (fun _ => 0) (fun _ => 0) 0 (fun _ => 0) (fun _ => 0)) H := hP
  have hDx : va_D (lA s) (wL cI cB ad (clN (cellV L xs)) (evN (clN (cellV L xs))) (fun _ => 0) (fun _ => 0) 0 0 0 0 (fun _ => 0) (fun _ => 0) (fun _ => 0) (fun _ => 0) (fun _ => 0) 0 (fun _ => 0) (fun _ => 0)) := hD
  clear hP hD
  subst hw1
  have hK : va_K (dC, dI) cl2 (tyL cI cB) s := hK
  refine lv_astore_n (lv' := [(1, .ref (ad 0)), (0, .ref b)]) hx hb dL_law_12 rfl hl (by decide) rfl (fun ls hl => ?_)
  refine va_new (ci := 1) (fs := [.int 0, .int 0, .null]) (C := RX2) (T := TX2) (N := 3) hx hb hts in_X2 tyX2 tyX2_ok hown (hts _ q151) (hts _ q152) (hts _ q20) hK0 hPx hDx hS hA rfl (fun j hj => by rcases (show j = 0 ∨ j = 1 ∨ j = 2 by omega) with rfl | rfl | rfl <;> rfl) (Nat.le_of_ble_eq_true rfl) (Nat.le_of_ble_eq_true rfl) dL_law_13 (fun h1 H hP hD hS => ?_)
  refine W.widen (k := 11) (n := 592) (Nat.le_of_ble_eq_true rfl) (Nat.le_of_ble_eq_true rfl) ?_
  have hPm : va_P (dC, dI) cl2 (w0M h1) H := P_r hP
  have hDm : va_D (lA s) (w0M h1) := D_r hD
  have hap : apt (w0M h1) _ := (D_ap hD).symm
  refine lv_dup hx hb dL_law_16 rfl ?_
  refine lv_aload_n hx hb dL_law_17 rfl (lv_at hl 1 rfl) ?_
  refine lv_iconst (v := 0) hx hb dL_law_18 (by decide) ?_
  refine hcell (by omega) ⟨hx, hb, hml, hown, hts⟩ hX hbl hbA hP hS hA ⟨Nat.le_of_ble_eq_true rfl, Nat.le_of_ble_eq_true rfl⟩ hl.1 (Nat.le_of_ble_eq_true rfl) dL_law_19 ⟨Nat.le_of_ble_eq_true rfl, Nat.le_of_ble_eq_true rfl⟩ (fun H locs hP hS => ?_)
  have hPm : va_P (dC, dI) cl2 (w0M h1) H := P_r hP
  refine hcallI (As := [.int (cellV L xs)]) (rest := [.ref h1]) ⟨hx, hb, hml, hown, hts⟩ (metX2_init l dC dI h1 H.size (cellV L xs)) (cwI 1 hts (lw_meth q155) rfl rfl rfl (hts _ q20) (hts _ q153) (hts _ q154) rfl (by decide +kernel) ⟨Nat.le_of_ble_eq_true rfl, Nat.le_of_ble_eq_true rfl⟩) hK0 hPm (P_l hP) hDm hap hS hA hl.1 rfl (Nat.le_of_ble_eq_true rfl) dL_law_22 ⟨Nat.le_of_ble_eq_true rfl, Nat.le_of_ble_eq_true rfl⟩ (fun u H locs hw2 hPm' hPx hDm' hap' hKm' hS => ?_)
  refine W.widen (k := 12) (n := 656) (Nat.le_of_ble_eq_true rfl) (Nat.le_of_ble_eq_true rfl) ?_
  obtain ⟨cZ, bd⟩ := u
  have hw2 : bd 0 = h1 := hw2
  have hPy : va_P (dC, dI) cl2 (wM cZ bd (clN (cellV L xs)) (evN (clN (cellV L xs))) (fun _ => 0)) H := hPm'
  have hDy : va_D (lA s) (wM cZ bd (clN (cellV L xs)) (evN (clN (cellV L xs))) (fun _ => 0)) := hDm'
  have hKm : va_K (dC, dI) cl2 (tyM cZ) s := hKm'
  have hapy : apt (wL cI cB ad (clN (cellV L xs)) (evN (clN (cellV L xs))) (fun _ => 0) (fun _ => 0) 0 0 0 0 (fun _ => 0) (fun _ => 0) (fun _ => 0) (fun _ => 0) (fun _ => 0) 0 (fun _ => 0) (fun _ => 0)) (wM cZ bd (clN (cellV L xs)) (evN (clN (cellV L xs))) (fun _ => 0)) := apt.symm hap'
  have hDz := D_l hD
  clear hP hPm hDm hap hD hPm' hDm' hap' hKm'
  subst hw2
  refine lv_astore_n (lv' := [(2, .ref (bd 0)), (1, .ref (ad 0)), (0, .ref b)]) hx hb dL_law_25 rfl hl (by decide) rfl (fun ls hl => ?_)
  refine lv_iconst (v := 1) hx hb dL_law_26 (by decide) ?_
  refine lv_istore_n (lv' := [(3, .int 1), (2, .ref (bd 0)), (1, .ref (ad 0)), (0, .ref b)]) hx hb dL_law_27 rfl hl (by decide) rfl (fun ls hl => ?_)
  obtain ⟨ν, hv2, hv, eN⟩ := clN_of (cellV L xs)
  have hLI := LI_0 (kd := fun _ => 0) hv eN
  rw [eN, evN_of ν hv] at hLI hPx hPy hDz hDy hapy
  exact law_loop hL C0 hv hK hKm 200 1 (by omega) (by omega) ls (lv_sub hl [3, 2, 1, 0] rfl) _ _ _ _ _ _ _ _ _ _ _ _ _ _ _ hLI H locs hPx hPy hDz hDy hapy hS
set_option maxHeartbeats 4000000 in
theorem lw_walk (l : Launch) (b : Addr) (xs : List Int32) : MetFree l x (headSpec (Jvm.Cond.code x code maxLocals ret :: tables_1) room_1) (lw_P b xs) (fun _ _ _ _ _ => True) lw_Q := by
  refine MetFree.of_bodyS (code := code) (maxLocals := maxLocals) (ret := ret) (by decide) ?_ ?_
  · intro args s m h hn
    obtain ⟨meth, c, h1, h2, h3, h4, h5, h6, -, -⟩ := Cond.code_spec hn (atoms_spec (ws := Jvm.Cond.code x code maxLocals ret :: tables_1) h _ List.mem_cons_self)
    exact ⟨meth, c, h1, h2, h3, h4, h5, h6⟩
  · intro p e s m args below meth c s₁ B hml0 hP _
    obtain ⟨rfl, hx, hbd, hgv⟩ := hP
    obtain ⟨scr, harrAt, hlist, hof, hsmall⟩ := hx
    obtain ⟨hcb, hkn, -, -⟩ := State.arrayAt?_spec harrAt
    have hown : s.vm.findClass R_law = some m.cls := findClass_of_methodNamed B.named
    have hts0 : ∀ c ∈ (Jvm.Cond.code x code maxLocals ret :: tables_1), c.before #[Value.ref b] s = true := atoms_spec (ws := Jvm.Cond.code x code maxLocals ret :: tables_1) B.pre
    have hts : ∀ w ∈ lw_tbl, w.before #[Value.ref b] s = true := k2_hts_sels lw_privs (fun w hw => hts0 w (List.mem_cons_of_mem _ hw)) lw_privs_ok
    have hml : c.maxLocals = 4 := B.maxLocals_eq (hts0 _ List.mem_cons_self)
    have X₀ : Stand p l e room_1 s m #[Value.ref b] below meth c s₁ [] 0 0 := Stand.of_body B
    have hh0 : s₁.heap = s.heap := by rw [B.state]; rfl
    have hsz : scr.slots.size = xs.length := by rw [← Array.length_toList, hlist, List.length_map]
    have hval : ∀ j : Nat, j < xs.length → scr.slots[j]? = some (.int (xs.getD j 0)) := fun j hj => by
      rw [← Array.getElem?_toList, hlist]
      simp [hj]
    have hbl : b < s.heap.size := (Array.getElem?_eq_some_iff.mp hcb).1
    have hX : va_X b xs.length (fun j => xs.getD j 0) s s.heap := ⟨scr, hcb, hof, hkn, hsz, hval⟩
    have K : W p l e room_1 s m #[Value.ref b] below meth c s₁.heap [] 0 0 (lw_Z below #[Value.ref b] s) (entryFrame m ([Value.ref b] : List Value).toArray 4) := by
      rw [hh0]
      exact whole_start l hbd ⟨B.exec, B.bytes, B.returns, hml, hown, hts, hX, hbl, B.notSynchronized, hgv⟩
    obtain ⟨t, a1, o, b1, b2, b3⟩ := K s₁ rfl X₀
    exact ⟨t, o, a1, b1, b2, b3⟩
theorem lw_pre_spec {args : Array Value} {s : State} (h : (Jvm.Cond.and given_1 narrow_1).before args s = true) (hr : rest_1_c.before args s = true) : ∃ (b : Addr) (xs : List Int32), lw_P b xs args s := by
  have hs := flat_of_before _ h
  have hq := flat_of_before _ hr
  have hc : (Cond.count 1).before args s = true := hs _ (by decide +kernel)
  have harr : (Cond.arrayOf (.arg 0) .int).before args s = true := hs _ (by decide +kernel)
  have hle : (Cond.le (.length (.arg 0)) (.int 193)).before args s = true := hs _ (by decide +kernel)
  have hlen : (Cond.isInt (.length (.arg 0))).before args s = true := hq _ (by decide +kernel)
  have hall : (Cond.all (.arg 0) (.isInt (.elem (.arg 0) (.index 0)))).before args s = true := hq _ (by decide +kernel)
  obtain ⟨b, xs, hb, hx⟩ := State.ints_of_pre rfl harr hlen hall
  have hsm : xs.length < 2 ^ 31 := hx.choose_spec.2.2.2
  have hev : (Term.length (.arg 0)).eval args s none [] s = some (.int xs.length.toInt32) := hx.length_eval hb
  have hv := Cond.le_ints hev (show (Term.int 193).eval args s none [] s = some (.int 193) from rfl)
  have hd : xs.length.toInt32 ≤ 193 := by
    simpa [Cond.before, Cond.holds, hv] using hle
  have hN : xs.length ≤ 193 := (Int32.ofNat_le_ofNat hsm (by decide)).mp (show Int32.ofNat xs.length ≤ Int32.ofNat 193 from hd)
  exact ⟨b, xs, Cond.one_arg hc (show args[0]? = some (.ref b) from hb), hx, hN, h⟩
theorem lw_comes (l : Launch) : Comes l x (Jvm.Cond.code x code maxLocals ret :: tables_1) room_1 (fun tb e args s => Calls_1 tb e args s ∧ rest_1 tb e args s ∧ Pre_1 tb e args s)
    (fun _ _ args s o t => lw_Q args s o t) := by
  intro p e ha hc hk s m args below hf hfit hheap happ hpre
  obtain ⟨b, xs, hP⟩ := lw_pre_spec hpre.2.2 hpre.2.1
  obtain ⟨k, o, h1, h2, h3, hQ⟩ := lw_walk l b xs p e ha hc hk s m args below hf ((Spec.applies_iff_loose hf).mp happ).1 hP trivial
  exact ⟨k, o, h1, h2, h3, hQ⟩
theorem lw_frame {s t : State} {o : Outcome} {args : Array Value} (h : Framed s o t [] 600000 7290000) :
    Framed s o t (fieldLocs frame_1_writes args s ++ arrayLocs frame_1_arrays args s ++ staticLocs frame_1_statics s) 600000 7290000 := h
theorem lw_limb (L : Cond) (hL : ∀ (args : Array Value) (s t : State), L.after args s (.returned (some (.int 1))) t = true) :
    ArmFor flags0 classFile x code maxLocals ret World_1 tables_1 room_1 Calls_1 rest_1 Pre_1
      (fun tb e a s o t => postC L tb e a s o t ∧ Framed s o t (fieldLocs frame_1_writes a s ++ arrayLocs frame_1_arrays a s ++ staticLocs frame_1_statics s) 600000 7290000) := by
  intro l _ _ _ p e ha hc hk s m args below hf hfit hheap happ hpre
  obtain ⟨k, o, h1, h2, h3, rfl, hF⟩ := lw_comes l p e ha hc hk s m args below hf hfit hheap happ hpre
  exact ⟨k, _, h1, h2, h3, hL args s _, lw_frame hF⟩
theorem i_vc : Claimed_1_1 ∧ Claimed_1_2 := ⟨lw_limb limb_1_1 (fun args s t => by simp [limb_1_1, Cond.after, Cond.holds, Cond.value]), lw_limb limb_1_2 (fun args s t => Cond.after_iff.mpr (by
  first | (rw [show limb_1_2 = Cond.eq .result (.int 1) from rfl, Cond.eq_ints (x := 1) (y := 1) rfl rfl]; simp; done) | (simp [limb_1_2, Cond.value, Term.eval]; done)))⟩
end
