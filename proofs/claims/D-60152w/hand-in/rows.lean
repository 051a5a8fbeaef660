section
-- ===== PART A: goes FIRST, ahead of the names: the tables' words, and 'selects' of the private methods out of them =====
/-- a private method of a class that the tables say can be made, by its rows of tables_1 -/
def lw_okq (q : MethodName × Nat) : Prop := (q.1.cls ≠ "java/lang/invoke/MethodHandle" ∧ q.1.cls ≠ "java/lang/invoke/VarHandle") ∧ Cond.instantiable q.1.cls q.2 ∈ tables_1 ∧ Cond.privateMethod q.1 ∈ tables_1 ∧ Cond.instanceMethod q.1 ∈ tables_1
set_option maxRecDepth 100000
theorem lw_p0 : lw_okq (⟨"IncrLiveness", "bad", "(I)Z"⟩, 5) := ⟨⟨by decide +kernel, by decide +kernel⟩, List.mem_of_getElem? (i := 4) rfl, List.mem_of_getElem? (i := 33) rfl, List.mem_of_getElem? (i := 34) rfl⟩
theorem lw_p1 : lw_okq (⟨"IncrLiveness", "join", "(II)V"⟩, 5) := ⟨⟨by decide +kernel, by decide +kernel⟩, List.mem_of_getElem? (i := 4) rfl, List.mem_of_getElem? (i := 37) rfl, List.mem_of_getElem? (i := 38) rfl⟩
theorem lw_p2 : lw_okq (⟨"IncrLiveness", "spread", "(I)V"⟩, 5) := ⟨⟨by decide +kernel, by decide +kernel⟩, List.mem_of_getElem? (i := 4) rfl, List.mem_of_getElem? (i := 41) rfl, List.mem_of_getElem? (i := 42) rfl⟩
theorem lw_p3 : lw_okq (⟨"IncrLiveness", "due", "(I)I"⟩, 5) := ⟨⟨by decide +kernel, by decide +kernel⟩, List.mem_of_getElem? (i := 4) rfl, List.mem_of_getElem? (i := 45) rfl, List.mem_of_getElem? (i := 46) rfl⟩
theorem lw_p4 : lw_okq (⟨"IncrLiveness", "atEnd", "(I)I"⟩, 5) := ⟨⟨by decide +kernel, by decide +kernel⟩, List.mem_of_getElem? (i := 4) rfl, List.mem_of_getElem? (i := 49) rfl, List.mem_of_getElem? (i := 50) rfl⟩
theorem lw_p5 : lw_okq (⟨"IncrLiveness", "part", "(II)V"⟩, 5) := ⟨⟨by decide +kernel, by decide +kernel⟩, List.mem_of_getElem? (i := 4) rfl, List.mem_of_getElem? (i := 53) rfl, List.mem_of_getElem? (i := 54) rfl⟩
theorem lw_p6 : lw_okq (⟨"IncrLiveness", "shrink", "(II)V"⟩, 5) := ⟨⟨by decide +kernel, by decide +kernel⟩, List.mem_of_getElem? (i := 4) rfl, List.mem_of_getElem? (i := 58) rfl, List.mem_of_getElem? (i := 59) rfl⟩
theorem lw_p7 : lw_okq (⟨"IncrLiveness", "behind", "(I)I"⟩, 5) := ⟨⟨by decide +kernel, by decide +kernel⟩, List.mem_of_getElem? (i := 4) rfl, List.mem_of_getElem? (i := 62) rfl, List.mem_of_getElem? (i := 63) rfl⟩
theorem lw_p8 : lw_okq (⟨"IncrLiveness", "badVariable", "(I)Z"⟩, 5) := ⟨⟨by decide +kernel, by decide +kernel⟩, List.mem_of_getElem? (i := 4) rfl, List.mem_of_getElem? (i := 74) rfl, List.mem_of_getElem? (i := 75) rfl⟩
theorem lw_p9 : lw_okq (⟨"IncrLiveness", "change", "(III)V"⟩, 5) := ⟨⟨by decide +kernel, by decide +kernel⟩, List.mem_of_getElem? (i := 4) rfl, List.mem_of_getElem? (i := 78) rfl, List.mem_of_getElem? (i := 79) rfl⟩
theorem lw_p10 : lw_okq (⟨"IncrLiveness", "sizeOf", "(I)I"⟩, 5) := ⟨⟨by decide +kernel, by decide +kernel⟩, List.mem_of_getElem? (i := 4) rfl, List.mem_of_getElem? (i := 114) rfl, List.mem_of_getElem? (i := 115) rfl⟩
theorem lw_p11 : lw_okq (⟨"IncrLivenessModel", "isBlock", "(I)Z"⟩, 4) := ⟨⟨by decide +kernel, by decide +kernel⟩, List.mem_of_getElem? (i := 130) rfl, List.mem_of_getElem? (i := 153) rfl, List.mem_of_getElem? (i := 154) rfl⟩
theorem lw_p12 : lw_okq (⟨"IncrLivenessModel", "has", "(II)Z"⟩, 4) := ⟨⟨by decide +kernel, by decide +kernel⟩, List.mem_of_getElem? (i := 130) rfl, List.mem_of_getElem? (i := 161) rfl, List.mem_of_getElem? (i := 162) rfl⟩
theorem lw_p13 : lw_okq (⟨"IncrLivenessModel", "isVariable", "(I)Z"⟩, 4) := ⟨⟨by decide +kernel, by decide +kernel⟩, List.mem_of_getElem? (i := 130) rfl, List.mem_of_getElem? (i := 169) rfl, List.mem_of_getElem? (i := 170) rfl⟩
theorem lw_p14 : lw_okq (⟨"IncrLivenessModel", "sizeOf", "(I)I"⟩, 4) := ⟨⟨by decide +kernel, by decide +kernel⟩, List.mem_of_getElem? (i := 130) rfl, List.mem_of_getElem? (i := 186) rfl, List.mem_of_getElem? (i := 187) rfl⟩
theorem lw_p15 : lw_okq (⟨"IncrLivenessModel", "spread", "()V"⟩, 4) := ⟨⟨by decide +kernel, by decide +kernel⟩, List.mem_of_getElem? (i := 130) rfl, List.mem_of_getElem? (i := 198) rfl, List.mem_of_getElem? (i := 199) rfl⟩
def lw_privs_1 : List (MethodName × Nat) := [(⟨"IncrLiveness", "bad", "(I)Z"⟩, 5), (⟨"IncrLiveness", "join", "(II)V"⟩, 5), (⟨"IncrLiveness", "spread", "(I)V"⟩, 5), (⟨"IncrLiveness", "due", "(I)I"⟩, 5), (⟨"IncrLiveness", "atEnd", "(I)I"⟩, 5), (⟨"IncrLiveness", "part", "(II)V"⟩, 5), (⟨"IncrLiveness", "shrink", "(II)V"⟩, 5), (⟨"IncrLiveness", "behind", "(I)I"⟩, 5), (⟨"IncrLiveness", "badVariable", "(I)Z"⟩, 5), (⟨"IncrLiveness", "change", "(III)V"⟩, 5), (⟨"IncrLiveness", "sizeOf", "(I)I"⟩, 5), (⟨"IncrLivenessModel", "isBlock", "(I)Z"⟩, 4), (⟨"IncrLivenessModel", "has", "(II)Z"⟩, 4), (⟨"IncrLivenessModel", "isVariable", "(I)Z"⟩, 4), (⟨"IncrLivenessModel", "sizeOf", "(I)I"⟩, 4), (⟨"IncrLivenessModel", "spread", "()V"⟩, 4)]
theorem lw_r1 : ∀ q ∈ lw_privs_1, lw_okq q := List.forall_mem_cons.mpr ⟨lw_p0, List.forall_mem_cons.mpr ⟨lw_p1, List.forall_mem_cons.mpr ⟨lw_p2, List.forall_mem_cons.mpr ⟨lw_p3, List.forall_mem_cons.mpr ⟨lw_p4, List.forall_mem_cons.mpr ⟨lw_p5, List.forall_mem_cons.mpr ⟨lw_p6, List.forall_mem_cons.mpr ⟨lw_p7, List.forall_mem_cons.mpr ⟨lw_p8, List.forall_mem_cons.mpr ⟨lw_p9, List.forall_mem_cons.mpr ⟨lw_p10, List.forall_mem_cons.mpr ⟨lw_p11, List.forall_mem_cons.mpr ⟨lw_p12, List.forall_mem_cons.mpr ⟨lw_p13, List.forall_mem_cons.mpr ⟨lw_p14, List.forall_mem_cons.mpr ⟨lw_p15, fun _ h => absurd h List.not_mem_nil⟩⟩⟩⟩⟩⟩⟩⟩⟩⟩⟩⟩⟩⟩⟩⟩
theorem lw_p16 : lw_okq (⟨"IncrLivenessModel", "behind", "(I)I"⟩, 4) := ⟨⟨by decide +kernel, by decide +kernel⟩, List.mem_of_getElem? (i := 130) rfl, List.mem_of_getElem? (i := 202) rfl, List.mem_of_getElem? (i := 203) rfl⟩
theorem lw_p17 : lw_okq (⟨"IncrLivenessModel", "far", "(II)I"⟩, 4) := ⟨⟨by decide +kernel, by decide +kernel⟩, List.mem_of_getElem? (i := 130) rfl, List.mem_of_getElem? (i := 226) rfl, List.mem_of_getElem? (i := 227) rfl⟩
theorem lw_p18 : lw_okq (⟨"IncrLivenessModel", "besides", "(I)I"⟩, 4) := ⟨⟨by decide +kernel, by decide +kernel⟩, List.mem_of_getElem? (i := 130) rfl, List.mem_of_getElem? (i := 234) rfl, List.mem_of_getElem? (i := 235) rfl⟩
def lw_privs_2 : List (MethodName × Nat) := [(⟨"IncrLivenessModel", "behind", "(I)I"⟩, 4), (⟨"IncrLivenessModel", "far", "(II)I"⟩, 4), (⟨"IncrLivenessModel", "besides", "(I)I"⟩, 4)]
theorem lw_r2 : ∀ q ∈ lw_privs_2, lw_okq q := List.forall_mem_cons.mpr ⟨lw_p16, List.forall_mem_cons.mpr ⟨lw_p17, List.forall_mem_cons.mpr ⟨lw_p18, fun _ h => absurd h List.not_mem_nil⟩⟩⟩
def lw_privs : List (MethodName × Nat) := lw_privs_1 ++ (lw_privs_2)
def lw_tbl : List Cond := k2_sels lw_privs ++ tables_1
theorem lw_privs_ok : ∀ q ∈ lw_privs, lw_okq q := by
  show ∀ q ∈ lw_privs_1 ++ (lw_privs_2), lw_okq q
  exact List.forall_mem_append.mpr ⟨lw_r1, lw_r2⟩
-- ===== ONE list of words for every method: the tables' words that hold all through a run =====
def lw_all : List Cond := lw_tbl.filter goodWord
/-- a word of the tables by its place: claim/WORDS.tsv -/
theorem lw_w {w : Cond} (i : Nat) (h : lw_tbl[i]? = some w) (g : goodWord w = true) : w ∈ lw_all := List.mem_filter.mpr ⟨List.mem_of_getElem? h, g⟩
theorem lw_all_tbl {w : Cond} (h : w ∈ lw_all) : w ∈ lw_tbl := (List.mem_filter.mp h).1
theorem lw_self : GoodIn lw_all lw_all := fun w h => ⟨h, good_of_word (List.mem_filter.mp h).2⟩
/-- a class's field words, by their places -/
theorem lw_in (ws : List Cond) (ps : List Nat) (hp : ws = ps.filterMap (fun i => lw_tbl[i]?)) (hg : ws.all goodWord = true) : ∀ w ∈ ws, w ∈ lw_all := by
  intro w h
  have h1 := List.all_eq_true.mp hg w h
  rw [hp] at h
  obtain ⟨i, -, hi⟩ := List.mem_filterMap.mp h
  exact lw_w i hi h1
/-- the words of a contract for the method y with code b, L locals, answer r -/
abbrev ws_ (y : MethodName) (b : ByteArray) (L : Nat) (r : Option FieldType) : List Cond := Cond.code y b L r :: lw_all
theorem lw_meth {y : MethodName} {b : ByteArray} {L : Nat} {r : Option FieldType} (h : Cond.code y b L r ∈ lw_all) : GoodIn lw_all (ws_ y b L r) := by
  intro w hw
  rcases List.mem_cons.mp hw with e | e
  · rw [e]
    exact lw_self _ h
  · exact lw_self _ e
theorem lw_app {a c : List Cond} (ha : ∀ w ∈ a, w ∈ lw_all) (hc : GoodIn lw_all c) : GoodIn lw_all (a ++ c) := by
  intro w hw
  rcases List.mem_append.mp hw with e | e
  · exact lw_self w (ha w e)
  · exact hc w e
/-- what a call through an object asks: cwV n hts (lw_V ..) -/
theorem lw_V {own : String} {idx : Nat} {C : String} {y : MethodName} {b : ByteArray} {L : Nat} {r : Option FieldType} (h1 : Cond.methodLink own idx y ∈ lw_all) (h2 : Cond.instanceMethod y ∈ lw_all) (h3 : Cond.selects C y y ∈ lw_all) (h4 : Cond.initialized C ∈ lw_all) (h5 : Cond.code y b L r ∈ lw_all) : GoodIn lw_all (wsV own idx C y (ws_ y b L r)) := by
  refine lw_app ?_ (lw_meth h5)
  intro w hw
  simp only [List.mem_cons, List.not_mem_nil, or_false] at hw
  rcases hw with e | e | e | e
  · rw [e]; exact h1
  · rw [e]; exact h2
  · rw [e]; exact h3
  · rw [e]; exact h4
/-- what a static call asks: va_cwS n hts (lw_S ..) -/
theorem lw_S {own : String} {idx : Nat} {y : MethodName} {b : ByteArray} {L : Nat} {r : Option FieldType} (h1 : Cond.methodLink own idx y ∈ lw_all) (h2 : Cond.static y ∈ lw_all) (h3 : Cond.initialized y.cls ∈ lw_all) (h4 : Cond.code y b L r ∈ lw_all) : GoodIn lw_all (va_wsS own idx y (ws_ y b L r)) := by
  refine lw_app ?_ (lw_meth h4)
  intro w hw
  simp only [List.mem_cons, List.not_mem_nil, or_false] at hw
  rcases hw with e | e | e
  · rw [e]; exact h1
  · rw [e]; exact h2
  · rw [e]; exact h3
/-- the words of a contract for a method WITH HANDLERS (hh: its table) -/
abbrev wsW_ (y : MethodName) (b : ByteArray) (L : Nat) (r : Option FieldType) (hh : List (Nat × Nat × Nat × Nat)) : List Cond := Cond.codeWith y b L r hh :: lw_all
theorem lw_methW {y : MethodName} {b : ByteArray} {L : Nat} {r : Option FieldType} {hh : List (Nat × Nat × Nat × Nat)} (h : Cond.codeWith y b L r hh ∈ lw_all) : GoodIn lw_all (wsW_ y b L r hh) := by
  intro w hw
  rcases List.mem_cons.mp hw with e | e
  · rw [e]
    exact lw_self _ h
  · exact lw_self _ e
/-- any list of words by their places (lw_in), good -/
theorem lw_good {ws : List Cond} (h : ∀ w ∈ ws, w ∈ lw_all) : GoodIn lw_all ws := fun w hw => lw_self w (h w hw)
/-- what a call of a method with handlers asks: vx_cwVW n hts (lw_VW ..), vx_cwSW n hts (lw_SW ..) -/
theorem lw_VW {own : String} {idx : Nat} {C : String} {y : MethodName} {b : ByteArray} {L : Nat} {r : Option FieldType} {hh : List (Nat × Nat × Nat × Nat)} (h1 : Cond.methodLink own idx y ∈ lw_all) (h2 : Cond.instanceMethod y ∈ lw_all) (h3 : Cond.selects C y y ∈ lw_all) (h4 : Cond.initialized C ∈ lw_all) (h5 : Cond.codeWith y b L r hh ∈ lw_all) : GoodIn lw_all (wsV own idx C y (wsW_ y b L r hh)) := by
  refine lw_app ?_ (lw_methW h5)
  intro w hw
  simp only [List.mem_cons, List.not_mem_nil, or_false] at hw
  rcases hw with e | e | e | e
  · rw [e]; exact h1
  · rw [e]; exact h2
  · rw [e]; exact h3
  · rw [e]; exact h4
theorem lw_SW {own : String} {idx : Nat} {y : MethodName} {b : ByteArray} {L : Nat} {r : Option FieldType} {hh : List (Nat × Nat × Nat × Nat)} (h1 : Cond.methodLink own idx y ∈ lw_all) (h2 : Cond.static y ∈ lw_all) (h3 : Cond.initialized y.cls ∈ lw_all) (h4 : Cond.codeWith y b L r hh ∈ lw_all) : GoodIn lw_all (va_wsS own idx y (wsW_ y b L r hh)) := by
  refine lw_app ?_ (lw_methW h4)
  intro w hw
  simp only [List.mem_cons, List.not_mem_nil, or_false] at hw
  rcases hw with e | e | e
  · rw [e]; exact h1
  · rw [e]; exact h2
  · rw [e]; exact h3
/-- a word by its place in its run of the tables -/
theorem lw_at {r : List Cond} (hr : ∀ w ∈ r, w ∈ lw_tbl) {w : Cond} (i : Nat) (h : r[i]? = some w) : w ∈ lw_tbl := hr w (List.mem_of_getElem? h)
theorem lw_g {w : Cond} (h : w ∈ lw_tbl) (g : goodWord w = true) : w ∈ lw_all := List.mem_filter.mpr ⟨h, g⟩
theorem lw_ms : ∀ w ∈ k2_sels lw_privs, w ∈ lw_tbl := fun w h => show w ∈ k2_sels lw_privs ++ tables_1 from List.mem_append_left _ h
theorem lw_m0 : ∀ w ∈ tables_1, w ∈ lw_tbl := fun w h => show w ∈ k2_sels lw_privs ++ tables_1 from List.mem_append_right (k2_sels lw_privs) h
theorem qs0 : (Cond.selects "IncrLiveness" ⟨"IncrLiveness", "bad", "(I)Z"⟩ ⟨"IncrLiveness", "bad", "(I)Z"⟩) ∈ lw_all := lw_g (lw_at lw_ms 0 rfl) rfl
theorem qs1 : (Cond.selects "IncrLiveness" ⟨"IncrLiveness", "join", "(II)V"⟩ ⟨"IncrLiveness", "join", "(II)V"⟩) ∈ lw_all := lw_g (lw_at lw_ms 1 rfl) rfl
theorem qs2 : (Cond.selects "IncrLiveness" ⟨"IncrLiveness", "spread", "(I)V"⟩ ⟨"IncrLiveness", "spread", "(I)V"⟩) ∈ lw_all := lw_g (lw_at lw_ms 2 rfl) rfl
theorem qs3 : (Cond.selects "IncrLiveness" ⟨"IncrLiveness", "due", "(I)I"⟩ ⟨"IncrLiveness", "due", "(I)I"⟩) ∈ lw_all := lw_g (lw_at lw_ms 3 rfl) rfl
theorem qs4 : (Cond.selects "IncrLiveness" ⟨"IncrLiveness", "atEnd", "(I)I"⟩ ⟨"IncrLiveness", "atEnd", "(I)I"⟩) ∈ lw_all := lw_g (lw_at lw_ms 4 rfl) rfl
theorem qs5 : (Cond.selects "IncrLiveness" ⟨"IncrLiveness", "part", "(II)V"⟩ ⟨"IncrLiveness", "part", "(II)V"⟩) ∈ lw_all := lw_g (lw_at lw_ms 5 rfl) rfl
theorem qs6 : (Cond.selects "IncrLiveness" ⟨"IncrLiveness", "shrink", "(II)V"⟩ ⟨"IncrLiveness", "shrink", "(II)V"⟩) ∈ lw_all := lw_g (lw_at lw_ms 6 rfl) rfl
theorem qs7 : (Cond.selects "IncrLiveness" ⟨"IncrLiveness", "behind", "(I)I"⟩ ⟨"IncrLiveness", "behind", "(I)I"⟩) ∈ lw_all := lw_g (lw_at lw_ms 7 rfl) rfl
theorem qs8 : (Cond.selects "IncrLiveness" ⟨"IncrLiveness", "badVariable", "(I)Z"⟩ ⟨"IncrLiveness", "badVariable", "(I)Z"⟩) ∈ lw_all := lw_g (lw_at lw_ms 8 rfl) rfl
theorem qs9 : (Cond.selects "IncrLiveness" ⟨"IncrLiveness", "change", "(III)V"⟩ ⟨"IncrLiveness", "change", "(III)V"⟩) ∈ lw_all := lw_g (lw_at lw_ms 9 rfl) rfl
theorem qs10 : (Cond.selects "IncrLiveness" ⟨"IncrLiveness", "sizeOf", "(I)I"⟩ ⟨"IncrLiveness", "sizeOf", "(I)I"⟩) ∈ lw_all := lw_g (lw_at lw_ms 10 rfl) rfl
theorem qs11 : (Cond.selects "IncrLivenessModel" ⟨"IncrLivenessModel", "isBlock", "(I)Z"⟩ ⟨"IncrLivenessModel", "isBlock", "(I)Z"⟩) ∈ lw_all := lw_g (lw_at lw_ms 11 rfl) rfl
theorem qs12 : (Cond.selects "IncrLivenessModel" ⟨"IncrLivenessModel", "has", "(II)Z"⟩ ⟨"IncrLivenessModel", "has", "(II)Z"⟩) ∈ lw_all := lw_g (lw_at lw_ms 12 rfl) rfl
theorem qs13 : (Cond.selects "IncrLivenessModel" ⟨"IncrLivenessModel", "isVariable", "(I)Z"⟩ ⟨"IncrLivenessModel", "isVariable", "(I)Z"⟩) ∈ lw_all := lw_g (lw_at lw_ms 13 rfl) rfl
theorem qs14 : (Cond.selects "IncrLivenessModel" ⟨"IncrLivenessModel", "sizeOf", "(I)I"⟩ ⟨"IncrLivenessModel", "sizeOf", "(I)I"⟩) ∈ lw_all := lw_g (lw_at lw_ms 14 rfl) rfl
theorem qs15 : (Cond.selects "IncrLivenessModel" ⟨"IncrLivenessModel", "spread", "()V"⟩ ⟨"IncrLivenessModel", "spread", "()V"⟩) ∈ lw_all := lw_g (lw_at lw_ms 15 rfl) rfl
theorem qs16 : (Cond.selects "IncrLivenessModel" ⟨"IncrLivenessModel", "behind", "(I)I"⟩ ⟨"IncrLivenessModel", "behind", "(I)I"⟩) ∈ lw_all := lw_g (lw_at lw_ms 16 rfl) rfl
theorem qs17 : (Cond.selects "IncrLivenessModel" ⟨"IncrLivenessModel", "far", "(II)I"⟩ ⟨"IncrLivenessModel", "far", "(II)I"⟩) ∈ lw_all := lw_g (lw_at lw_ms 17 rfl) rfl
theorem qs18 : (Cond.selects "IncrLivenessModel" ⟨"IncrLivenessModel", "besides", "(I)I"⟩ ⟨"IncrLivenessModel", "besides", "(I)I"⟩) ∈ lw_all := lw_g (lw_at lw_ms 18 rfl) rfl
-- ===== end of PART A; then your names; then what follows =====
end
section
theorem q46 : (Jvm.Cond.arrayClass Jvm.ClassFile.FieldType.int) ∈ lw_all := lw_g (lw_at lw_m0 27 rfl) rfl
set_option maxRecDepth 100000
theorem q19 : (Jvm.Cond.initialized "IncrLivenessLaw") ∈ lw_all := lw_g (lw_at lw_m0 0 rfl) rfl
set_option maxRecDepth 100000
theorem q22 : (Jvm.Cond.classLink "IncrLivenessLaw" (7 : Nat) "IncrLiveness") ∈ lw_all := lw_g (lw_at lw_m0 3 rfl) rfl
theorem q24 : (Jvm.Cond.methodLink "IncrLivenessLaw" (9 : Nat) ({ cls := "IncrLiveness", name := "<init>", desc := "()V" } : Jvm.MethodName)) ∈ lw_all := lw_g (lw_at lw_m0 5 rfl) rfl
theorem q47 : (Jvm.Cond.methodLink "IncrLivenessLaw" (13 : Nat) ({ cls := "IncrLiveness", name := "arc", desc := "(III)I" } : Jvm.MethodName)) ∈ lw_all := lw_g (lw_at lw_m0 28 rfl) rfl
theorem q84 : (Jvm.Cond.methodLink "IncrLivenessLaw" (18 : Nat) ({ cls := "IncrLiveness", name := "hasArc", desc := "(II)Z" } : Jvm.MethodName)) ∈ lw_all := lw_g (lw_at lw_m0 65 rfl) rfl
theorem q88 : (Jvm.Cond.methodLink "IncrLivenessLaw" (23 : Nat) ({ cls := "IncrLiveness", name := "use", desc := "(III)I" } : Jvm.MethodName)) ∈ lw_all := lw_g (lw_at lw_m0 69 rfl) rfl
theorem q100 : (Jvm.Cond.methodLink "IncrLivenessLaw" (27 : Nat) ({ cls := "IncrLiveness", name := "set", desc := "(III)I" } : Jvm.MethodName)) ∈ lw_all := lw_g (lw_at lw_m0 81 rfl) rfl
theorem q104 : (Jvm.Cond.methodLink "IncrLivenessLaw" (31 : Nat) ({ cls := "IncrLiveness", name := "block", desc := "(III)I" } : Jvm.MethodName)) ∈ lw_all := lw_g (lw_at lw_m0 85 rfl) rfl
theorem q108 : (Jvm.Cond.methodLink "IncrLivenessLaw" (35 : Nat) ({ cls := "IncrLiveness", name := "cutOff", desc := "(I)I" } : Jvm.MethodName)) ∈ lw_all := lw_g (lw_at lw_m0 89 rfl) rfl
theorem q112 : (Jvm.Cond.methodLink "IncrLivenessLaw" (40 : Nat) ({ cls := "IncrLiveness", name := "takeOver", desc := "(II)I" } : Jvm.MethodName)) ∈ lw_all := lw_g (lw_at lw_m0 93 rfl) rfl
theorem q116 : (Jvm.Cond.methodLink "IncrLivenessLaw" (45 : Nat) ({ cls := "IncrLiveness", name := "liveIn", desc := "(I)I" } : Jvm.MethodName)) ∈ lw_all := lw_g (lw_at lw_m0 97 rfl) rfl
theorem q120 : (Jvm.Cond.methodLink "IncrLivenessLaw" (49 : Nat) ({ cls := "IncrLiveness", name := "liveOut", desc := "(I)I" } : Jvm.MethodName)) ∈ lw_all := lw_g (lw_at lw_m0 101 rfl) rfl
theorem q124 : (Jvm.Cond.methodLink "IncrLivenessLaw" (53 : Nat) ({ cls := "IncrLiveness", name := "liveBlocks", desc := "(I)I" } : Jvm.MethodName)) ∈ lw_all := lw_g (lw_at lw_m0 105 rfl) rfl
theorem q128 : (Jvm.Cond.methodLink "IncrLivenessLaw" (57 : Nat) ({ cls := "IncrLiveness", name := "idleSets", desc := "()I" } : Jvm.MethodName)) ∈ lw_all := lw_g (lw_at lw_m0 109 rfl) rfl
theorem q136 : (Jvm.Cond.methodLink "IncrLivenessLaw" (62 : Nat) ({ cls := "IncrLiveness", name := "pressure", desc := "()I" } : Jvm.MethodName)) ∈ lw_all := lw_g (lw_at lw_m0 117 rfl) rfl
theorem q140 : (Jvm.Cond.methodLink "IncrLivenessLaw" (66 : Nat) ({ cls := "IncrLiveness", name := "reaching", desc := "(II)I" } : Jvm.MethodName)) ∈ lw_all := lw_g (lw_at lw_m0 121 rfl) rfl
theorem q144 : (Jvm.Cond.methodLink "IncrLivenessLaw" (70 : Nat) ({ cls := "IncrLiveness", name := "crowded", desc := "()I" } : Jvm.MethodName)) ∈ lw_all := lw_g (lw_at lw_m0 125 rfl) rfl
theorem q148 : (Jvm.Cond.classLink "IncrLivenessLaw" (10 : Nat) "IncrLivenessModel") ∈ lw_all := lw_g (lw_at lw_m0 129 rfl) rfl
theorem q150 : (Jvm.Cond.methodLink "IncrLivenessLaw" (12 : Nat) ({ cls := "IncrLivenessModel", name := "<init>", desc := "()V" } : Jvm.MethodName)) ∈ lw_all := lw_g (lw_at lw_m0 131 rfl) rfl
theorem q167 : (Jvm.Cond.methodLink "IncrLivenessLaw" (17 : Nat) ({ cls := "IncrLivenessModel", name := "arc", desc := "(III)I" } : Jvm.MethodName)) ∈ lw_all := lw_g (lw_at lw_m0 148 rfl) rfl
theorem q175 : (Jvm.Cond.methodLink "IncrLivenessLaw" (22 : Nat) ({ cls := "IncrLivenessModel", name := "hasArc", desc := "(II)Z" } : Jvm.MethodName)) ∈ lw_all := lw_g (lw_at lw_m0 156 rfl) rfl
theorem q183 : (Jvm.Cond.methodLink "IncrLivenessLaw" (26 : Nat) ({ cls := "IncrLivenessModel", name := "use", desc := "(III)I" } : Jvm.MethodName)) ∈ lw_all := lw_g (lw_at lw_m0 164 rfl) rfl
theorem q191 : (Jvm.Cond.methodLink "IncrLivenessLaw" (30 : Nat) ({ cls := "IncrLivenessModel", name := "set", desc := "(III)I" } : Jvm.MethodName)) ∈ lw_all := lw_g (lw_at lw_m0 172 rfl) rfl
theorem q195 : (Jvm.Cond.methodLink "IncrLivenessLaw" (34 : Nat) ({ cls := "IncrLivenessModel", name := "block", desc := "(III)I" } : Jvm.MethodName)) ∈ lw_all := lw_g (lw_at lw_m0 176 rfl) rfl
theorem q200 : (Jvm.Cond.methodLink "IncrLivenessLaw" (39 : Nat) ({ cls := "IncrLivenessModel", name := "cutOff", desc := "(I)I" } : Jvm.MethodName)) ∈ lw_all := lw_g (lw_at lw_m0 181 rfl) rfl
theorem q208 : (Jvm.Cond.methodLink "IncrLivenessLaw" (44 : Nat) ({ cls := "IncrLivenessModel", name := "takeOver", desc := "(II)I" } : Jvm.MethodName)) ∈ lw_all := lw_g (lw_at lw_m0 189 rfl) rfl
theorem q212 : (Jvm.Cond.methodLink "IncrLivenessLaw" (48 : Nat) ({ cls := "IncrLivenessModel", name := "liveIn", desc := "(I)I" } : Jvm.MethodName)) ∈ lw_all := lw_g (lw_at lw_m0 193 rfl) rfl
theorem q224 : (Jvm.Cond.methodLink "IncrLivenessLaw" (52 : Nat) ({ cls := "IncrLivenessModel", name := "liveOut", desc := "(I)I" } : Jvm.MethodName)) ∈ lw_all := lw_g (lw_at lw_m0 205 rfl) rfl
theorem q228 : (Jvm.Cond.methodLink "IncrLivenessLaw" (56 : Nat) ({ cls := "IncrLivenessModel", name := "liveBlocks", desc := "(I)I" } : Jvm.MethodName)) ∈ lw_all := lw_g (lw_at lw_m0 209 rfl) rfl
theorem q232 : (Jvm.Cond.methodLink "IncrLivenessLaw" (61 : Nat) ({ cls := "IncrLivenessModel", name := "idleSets", desc := "()I" } : Jvm.MethodName)) ∈ lw_all := lw_g (lw_at lw_m0 213 rfl) rfl
theorem q236 : (Jvm.Cond.methodLink "IncrLivenessLaw" (65 : Nat) ({ cls := "IncrLivenessModel", name := "pressure", desc := "()I" } : Jvm.MethodName)) ∈ lw_all := lw_g (lw_at lw_m0 217 rfl) rfl
theorem q240 : (Jvm.Cond.methodLink "IncrLivenessLaw" (69 : Nat) ({ cls := "IncrLivenessModel", name := "reaching", desc := "(II)I" } : Jvm.MethodName)) ∈ lw_all := lw_g (lw_at lw_m0 221 rfl) rfl
theorem q248 : (Jvm.Cond.methodLink "IncrLivenessLaw" (73 : Nat) ({ cls := "IncrLivenessModel", name := "crowded", desc := "()I" } : Jvm.MethodName)) ∈ lw_all := lw_g (lw_at lw_m0 229 rfl) rfl
/-! java/lang/Object -/
set_option maxRecDepth 100000
def RJ0 : String := "java/lang/Object"
abbrev cJ0_init : ByteArray := object_method_1_code
def yJ0_init : MethodName := ⟨RJ0, "<init>", "()V"⟩
theorem dJ0_init_0 : decode cJ0_init 0 = .ok (.return_, 1) := by decide +kernel
theorem q28 : (Jvm.Cond.instanceMethod ({ cls := "java/lang/Object", name := "<init>", desc := "()V" } : Jvm.MethodName)) ∈ lw_all := lw_g (lw_at lw_m0 9 rfl) rfl
theorem q29 : (Jvm.Cond.code ({ cls := "java/lang/Object", name := "<init>", desc := "()V" } : Jvm.MethodName) object_method_1_code (1 : Nat) (Option.none : Option Jvm.ClassFile.FieldType)) ∈ lw_all := lw_g (lw_at lw_m0 10 rfl) rfl
end
section
/-! IncrLiveness -/
set_option maxRecDepth 100000
def RX0 : String := "IncrLiveness"
def TX0 : u_T := fun k => match k with
  | 0 => ("IncrLiveness", "to", "[I", true)
  | 1 => ("IncrLiveness", "from", "[I", true)
  | 2 => ("IncrLiveness", "uses", "[I", true)
  | 3 => ("IncrLiveness", "sets", "[I", true)
  | _ => ("IncrLiveness", "live", "[I", true)
def tyX0 : Nat → FieldType := fun k => match k with
  | 0 => .array .int
  | 1 => .array .int
  | 2 => .array .int
  | 3 => .array .int
  | _ => .array .int
abbrev wsX00 : List Cond := u_ws RX0 TX0 5
theorem nmX0 : ∀ a, a < 5 → ∀ b, b < 5 → a ≠ b → (TX0 a).2.1 ≠ (TX0 b).2.1 := by decide +kernel
theorem tyX0_ok : ∀ k, k < 5 → parseFieldDescriptor (TX0 k).2.2.1 = some (tyX0 k) := by decide +kernel
abbrev cX0_init : ByteArray := prog_1_method_1_code
def yX0_init : MethodName := ⟨RX0, "<init>", "()V"⟩
theorem dX0_init_0 : decode cX0_init 0 = .ok (.aload_n 0, 1) := by decide +kernel
theorem dX0_init_1 : decode cX0_init 1 = .ok (.invokespecial 1, 3) := by decide +kernel
theorem dX0_init_4 : decode cX0_init 4 = .ok (.aload_n 0, 1) := by decide +kernel
theorem dX0_init_5 : decode cX0_init 5 = .ok (.bipush 12, 2) := by decide +kernel
theorem dX0_init_7 : decode cX0_init 7 = .ok (.newarray .int, 2) := by decide +kernel
theorem dX0_init_9 : decode cX0_init 9 = .ok (.putfield 7, 3) := by decide +kernel
theorem dX0_init_12 : decode cX0_init 12 = .ok (.aload_n 0, 1) := by decide +kernel
theorem dX0_init_13 : decode cX0_init 13 = .ok (.bipush 12, 2) := by decide +kernel
theorem dX0_init_15 : decode cX0_init 15 = .ok (.newarray .int, 2) := by decide +kernel
theorem dX0_init_17 : decode cX0_init 17 = .ok (.putfield 13, 3) := by decide +kernel
theorem dX0_init_20 : decode cX0_init 20 = .ok (.aload_n 0, 1) := by decide +kernel
theorem dX0_init_21 : decode cX0_init 21 = .ok (.bipush 12, 2) := by decide +kernel
theorem dX0_init_23 : decode cX0_init 23 = .ok (.newarray .int, 2) := by decide +kernel
theorem dX0_init_25 : decode cX0_init 25 = .ok (.putfield 16, 3) := by decide +kernel
theorem dX0_init_28 : decode cX0_init 28 = .ok (.aload_n 0, 1) := by decide +kernel
theorem dX0_init_29 : decode cX0_init 29 = .ok (.bipush 12, 2) := by decide +kernel
theorem dX0_init_31 : decode cX0_init 31 = .ok (.newarray .int, 2) := by decide +kernel
theorem dX0_init_33 : decode cX0_init 33 = .ok (.putfield 19, 3) := by decide +kernel
theorem dX0_init_36 : decode cX0_init 36 = .ok (.aload_n 0, 1) := by decide +kernel
theorem dX0_init_37 : decode cX0_init 37 = .ok (.bipush 12, 2) := by decide +kernel
theorem dX0_init_39 : decode cX0_init 39 = .ok (.newarray .int, 2) := by decide +kernel
theorem dX0_init_41 : decode cX0_init 41 = .ok (.putfield 22, 3) := by decide +kernel
theorem dX0_init_44 : decode cX0_init 44 = .ok (.return_, 1) := by decide +kernel
abbrev cX0_arc : ByteArray := prog_1_method_11_code
def yX0_arc : MethodName := ⟨RX0, "arc", "(III)I"⟩
theorem dX0_arc_0 : decode cX0_arc 0 = .ok (.aload_n 0, 1) := by decide +kernel
theorem dX0_arc_1 : decode cX0_arc 1 = .ok (.iload_n 1, 1) := by decide +kernel
theorem dX0_arc_2 : decode cX0_arc 2 = .ok (.invokevirtual 44, 3) := by decide +kernel
theorem dX0_arc_5 : decode cX0_arc 5 = .ok (.ifCond .ne 11, 3) := by decide +kernel
theorem dX0_arc_8 : decode cX0_arc 8 = .ok (.aload_n 0, 1) := by decide +kernel
theorem dX0_arc_9 : decode cX0_arc 9 = .ok (.iload_n 2, 1) := by decide +kernel
theorem dX0_arc_10 : decode cX0_arc 10 = .ok (.invokevirtual 44, 3) := by decide +kernel
theorem dX0_arc_13 : decode cX0_arc 13 = .ok (.ifCond .eq 5, 3) := by decide +kernel
theorem dX0_arc_16 : decode cX0_arc 16 = .ok (.iconst (-1), 1) := by decide +kernel
theorem dX0_arc_17 : decode cX0_arc 17 = .ok (.ireturn, 1) := by decide +kernel
theorem dX0_arc_18 : decode cX0_arc 18 = .ok (.aload_n 0, 1) := by decide +kernel
theorem dX0_arc_19 : decode cX0_arc 19 = .ok (.getfield 7, 3) := by decide +kernel
theorem dX0_arc_22 : decode cX0_arc 22 = .ok (.iload_n 1, 1) := by decide +kernel
theorem dX0_arc_23 : decode cX0_arc 23 = .ok (.iaload, 1) := by decide +kernel
theorem dX0_arc_24 : decode cX0_arc 24 = .ok (.iload_n 2, 1) := by decide +kernel
theorem dX0_arc_25 : decode cX0_arc 25 = .ok (.ishr, 1) := by decide +kernel
theorem dX0_arc_26 : decode cX0_arc 26 = .ok (.iconst 1, 1) := by decide +kernel
theorem dX0_arc_27 : decode cX0_arc 27 = .ok (.iand, 1) := by decide +kernel
theorem dX0_arc_28 : decode cX0_arc 28 = .ok (.istore 4, 2) := by decide +kernel
theorem dX0_arc_30 : decode cX0_arc 30 = .ok (.iload_n 3, 1) := by decide +kernel
theorem dX0_arc_31 : decode cX0_arc 31 = .ok (.ifCond .eq 12, 3) := by decide +kernel
theorem dX0_arc_34 : decode cX0_arc 34 = .ok (.aload_n 0, 1) := by decide +kernel
theorem dX0_arc_35 : decode cX0_arc 35 = .ok (.iload_n 1, 1) := by decide +kernel
theorem dX0_arc_36 : decode cX0_arc 36 = .ok (.iload_n 2, 1) := by decide +kernel
theorem dX0_arc_37 : decode cX0_arc 37 = .ok (.invokevirtual 48, 3) := by decide +kernel
theorem dX0_arc_40 : decode cX0_arc 40 = .ok (.goto 9, 3) := by decide +kernel
theorem dX0_arc_43 : decode cX0_arc 43 = .ok (.aload_n 0, 1) := by decide +kernel
theorem dX0_arc_44 : decode cX0_arc 44 = .ok (.iload_n 1, 1) := by decide +kernel
theorem dX0_arc_45 : decode cX0_arc 45 = .ok (.iload_n 2, 1) := by decide +kernel
theorem dX0_arc_46 : decode cX0_arc 46 = .ok (.invokevirtual 51, 3) := by decide +kernel
theorem dX0_arc_49 : decode cX0_arc 49 = .ok (.iload 4, 2) := by decide +kernel
theorem dX0_arc_51 : decode cX0_arc 51 = .ok (.ireturn, 1) := by decide +kernel
abbrev cX0_bad : ByteArray := prog_1_method_2_code
def yX0_bad : MethodName := ⟨RX0, "bad", "(I)Z"⟩
theorem dX0_bad_0 : decode cX0_bad 0 = .ok (.iload_n 1, 1) := by decide +kernel
theorem dX0_bad_1 : decode cX0_bad 1 = .ok (.ifCond .lt 9, 3) := by decide +kernel
theorem dX0_bad_4 : decode cX0_bad 4 = .ok (.iload_n 1, 1) := by decide +kernel
theorem dX0_bad_5 : decode cX0_bad 5 = .ok (.bipush 12, 2) := by decide +kernel
theorem dX0_bad_7 : decode cX0_bad 7 = .ok (.if_icmp .lt 7, 3) := by decide +kernel
theorem dX0_bad_10 : decode cX0_bad 10 = .ok (.iconst 1, 1) := by decide +kernel
theorem dX0_bad_11 : decode cX0_bad 11 = .ok (.goto 4, 3) := by decide +kernel
theorem dX0_bad_14 : decode cX0_bad 14 = .ok (.iconst 0, 1) := by decide +kernel
theorem dX0_bad_15 : decode cX0_bad 15 = .ok (.ireturn, 1) := by decide +kernel
abbrev cX0_join : ByteArray := prog_1_method_9_code
def yX0_join : MethodName := ⟨RX0, "join", "(II)V"⟩
theorem dX0_join_0 : decode cX0_join 0 = .ok (.aload_n 0, 1) := by decide +kernel
theorem dX0_join_1 : decode cX0_join 1 = .ok (.getfield 7, 3) := by decide +kernel
theorem dX0_join_4 : decode cX0_join 4 = .ok (.iload_n 1, 1) := by decide +kernel
theorem dX0_join_5 : decode cX0_join 5 = .ok (.iaload, 1) := by decide +kernel
theorem dX0_join_6 : decode cX0_join 6 = .ok (.iload_n 2, 1) := by decide +kernel
theorem dX0_join_7 : decode cX0_join 7 = .ok (.ishr, 1) := by decide +kernel
theorem dX0_join_8 : decode cX0_join 8 = .ok (.iconst 1, 1) := by decide +kernel
theorem dX0_join_9 : decode cX0_join 9 = .ok (.iand, 1) := by decide +kernel
theorem dX0_join_10 : decode cX0_join 10 = .ok (.ifCond .ne 40, 3) := by decide +kernel
theorem dX0_join_13 : decode cX0_join 13 = .ok (.aload_n 0, 1) := by decide +kernel
theorem dX0_join_14 : decode cX0_join 14 = .ok (.getfield 7, 3) := by decide +kernel
theorem dX0_join_17 : decode cX0_join 17 = .ok (.iload_n 1, 1) := by decide +kernel
theorem dX0_join_18 : decode cX0_join 18 = .ok (.aload_n 0, 1) := by decide +kernel
theorem dX0_join_19 : decode cX0_join 19 = .ok (.getfield 7, 3) := by decide +kernel
theorem dX0_join_22 : decode cX0_join 22 = .ok (.iload_n 1, 1) := by decide +kernel
theorem dX0_join_23 : decode cX0_join 23 = .ok (.iaload, 1) := by decide +kernel
theorem dX0_join_24 : decode cX0_join 24 = .ok (.iconst 1, 1) := by decide +kernel
theorem dX0_join_25 : decode cX0_join 25 = .ok (.iload_n 2, 1) := by decide +kernel
theorem dX0_join_26 : decode cX0_join 26 = .ok (.ishl, 1) := by decide +kernel
theorem dX0_join_27 : decode cX0_join 27 = .ok (.ior, 1) := by decide +kernel
theorem dX0_join_28 : decode cX0_join 28 = .ok (.iastore, 1) := by decide +kernel
theorem dX0_join_29 : decode cX0_join 29 = .ok (.aload_n 0, 1) := by decide +kernel
theorem dX0_join_30 : decode cX0_join 30 = .ok (.getfield 13, 3) := by decide +kernel
theorem dX0_join_33 : decode cX0_join 33 = .ok (.iload_n 2, 1) := by decide +kernel
theorem dX0_join_34 : decode cX0_join 34 = .ok (.aload_n 0, 1) := by decide +kernel
theorem dX0_join_35 : decode cX0_join 35 = .ok (.getfield 13, 3) := by decide +kernel
theorem dX0_join_38 : decode cX0_join 38 = .ok (.iload_n 2, 1) := by decide +kernel
theorem dX0_join_39 : decode cX0_join 39 = .ok (.iaload, 1) := by decide +kernel
theorem dX0_join_40 : decode cX0_join 40 = .ok (.iconst 1, 1) := by decide +kernel
theorem dX0_join_41 : decode cX0_join 41 = .ok (.iload_n 1, 1) := by decide +kernel
theorem dX0_join_42 : decode cX0_join 42 = .ok (.ishl, 1) := by decide +kernel
theorem dX0_join_43 : decode cX0_join 43 = .ok (.ior, 1) := by decide +kernel
theorem dX0_join_44 : decode cX0_join 44 = .ok (.iastore, 1) := by decide +kernel
theorem dX0_join_45 : decode cX0_join 45 = .ok (.aload_n 0, 1) := by decide +kernel
theorem dX0_join_46 : decode cX0_join 46 = .ok (.iload_n 1, 1) := by decide +kernel
theorem dX0_join_47 : decode cX0_join 47 = .ok (.invokevirtual 35, 3) := by decide +kernel
theorem dX0_join_50 : decode cX0_join 50 = .ok (.return_, 1) := by decide +kernel
abbrev cX0_spread : ByteArray := prog_1_method_6_code
def yX0_spread : MethodName := ⟨RX0, "spread", "(I)V"⟩
theorem dX0_spread_0 : decode cX0_spread 0 = .ok (.iconst 1, 1) := by decide +kernel
theorem dX0_spread_1 : decode cX0_spread 1 = .ok (.iload_n 1, 1) := by decide +kernel
theorem dX0_spread_2 : decode cX0_spread 2 = .ok (.ishl, 1) := by decide +kernel
theorem dX0_spread_3 : decode cX0_spread 3 = .ok (.istore_n 2, 1) := by decide +kernel
theorem dX0_spread_4 : decode cX0_spread 4 = .ok (.iconst 0, 1) := by decide +kernel
theorem dX0_spread_5 : decode cX0_spread 5 = .ok (.istore_n 3, 1) := by decide +kernel
theorem dX0_spread_6 : decode cX0_spread 6 = .ok (.iload_n 3, 1) := by decide +kernel
theorem dX0_spread_7 : decode cX0_spread 7 = .ok (.sipush 241, 3) := by decide +kernel
theorem dX0_spread_10 : decode cX0_spread 10 = .ok (.if_icmp .ge 97, 3) := by decide +kernel
theorem dX0_spread_13 : decode cX0_spread 13 = .ok (.iload_n 2, 1) := by decide +kernel
theorem dX0_spread_14 : decode cX0_spread 14 = .ok (.ifCond .eq 93, 3) := by decide +kernel
theorem dX0_spread_17 : decode cX0_spread 17 = .ok (.iconst 0, 1) := by decide +kernel
theorem dX0_spread_18 : decode cX0_spread 18 = .ok (.istore 4, 2) := by decide +kernel
theorem dX0_spread_20 : decode cX0_spread 20 = .ok (.iconst 0, 1) := by decide +kernel
theorem dX0_spread_21 : decode cX0_spread 21 = .ok (.istore 5, 2) := by decide +kernel
theorem dX0_spread_23 : decode cX0_spread 23 = .ok (.iload 5, 2) := by decide +kernel
theorem dX0_spread_25 : decode cX0_spread 25 = .ok (.bipush 12, 2) := by decide +kernel
theorem dX0_spread_27 : decode cX0_spread 27 = .ok (.if_icmp .ge 71, 3) := by decide +kernel
theorem dX0_spread_30 : decode cX0_spread 30 = .ok (.iload_n 2, 1) := by decide +kernel
theorem dX0_spread_31 : decode cX0_spread 31 = .ok (.iload 5, 2) := by decide +kernel
theorem dX0_spread_33 : decode cX0_spread 33 = .ok (.ishr, 1) := by decide +kernel
theorem dX0_spread_34 : decode cX0_spread 34 = .ok (.iconst 1, 1) := by decide +kernel
theorem dX0_spread_35 : decode cX0_spread 35 = .ok (.iand, 1) := by decide +kernel
theorem dX0_spread_36 : decode cX0_spread 36 = .ok (.iconst 1, 1) := by decide +kernel
theorem dX0_spread_37 : decode cX0_spread 37 = .ok (.if_icmp .ne 55, 3) := by decide +kernel
theorem dX0_spread_40 : decode cX0_spread 40 = .ok (.aload_n 0, 1) := by decide +kernel
theorem dX0_spread_41 : decode cX0_spread 41 = .ok (.iload 5, 2) := by decide +kernel
theorem dX0_spread_43 : decode cX0_spread 43 = .ok (.invokevirtual 29, 3) := by decide +kernel
theorem dX0_spread_46 : decode cX0_spread 46 = .ok (.istore 6, 2) := by decide +kernel
theorem dX0_spread_48 : decode cX0_spread 48 = .ok (.iload 6, 2) := by decide +kernel
theorem dX0_spread_50 : decode cX0_spread 50 = .ok (.aload_n 0, 1) := by decide +kernel
theorem dX0_spread_51 : decode cX0_spread 51 = .ok (.getfield 22, 3) := by decide +kernel
theorem dX0_spread_54 : decode cX0_spread 54 = .ok (.iload 5, 2) := by decide +kernel
theorem dX0_spread_56 : decode cX0_spread 56 = .ok (.iaload, 1) := by decide +kernel
theorem dX0_spread_57 : decode cX0_spread 57 = .ok (.iconst (-1), 1) := by decide +kernel
theorem dX0_spread_58 : decode cX0_spread 58 = .ok (.ixor, 1) := by decide +kernel
theorem dX0_spread_59 : decode cX0_spread 59 = .ok (.iand, 1) := by decide +kernel
theorem dX0_spread_60 : decode cX0_spread 60 = .ok (.ifCond .eq 32, 3) := by decide +kernel
theorem dX0_spread_63 : decode cX0_spread 63 = .ok (.aload_n 0, 1) := by decide +kernel
theorem dX0_spread_64 : decode cX0_spread 64 = .ok (.getfield 22, 3) := by decide +kernel
theorem dX0_spread_67 : decode cX0_spread 67 = .ok (.iload 5, 2) := by decide +kernel
theorem dX0_spread_69 : decode cX0_spread 69 = .ok (.aload_n 0, 1) := by decide +kernel
theorem dX0_spread_70 : decode cX0_spread 70 = .ok (.getfield 22, 3) := by decide +kernel
theorem dX0_spread_73 : decode cX0_spread 73 = .ok (.iload 5, 2) := by decide +kernel
theorem dX0_spread_75 : decode cX0_spread 75 = .ok (.iaload, 1) := by decide +kernel
theorem dX0_spread_76 : decode cX0_spread 76 = .ok (.iload 6, 2) := by decide +kernel
theorem dX0_spread_78 : decode cX0_spread 78 = .ok (.ior, 1) := by decide +kernel
theorem dX0_spread_79 : decode cX0_spread 79 = .ok (.iastore, 1) := by decide +kernel
theorem dX0_spread_80 : decode cX0_spread 80 = .ok (.iload 4, 2) := by decide +kernel
theorem dX0_spread_82 : decode cX0_spread 82 = .ok (.aload_n 0, 1) := by decide +kernel
theorem dX0_spread_83 : decode cX0_spread 83 = .ok (.getfield 13, 3) := by decide +kernel
theorem dX0_spread_86 : decode cX0_spread 86 = .ok (.iload 5, 2) := by decide +kernel
theorem dX0_spread_88 : decode cX0_spread 88 = .ok (.iaload, 1) := by decide +kernel
theorem dX0_spread_89 : decode cX0_spread 89 = .ok (.ior, 1) := by decide +kernel
theorem dX0_spread_90 : decode cX0_spread 90 = .ok (.istore 4, 2) := by decide +kernel
theorem dX0_spread_92 : decode cX0_spread 92 = .ok (.iinc 5 1, 3) := by decide +kernel
theorem dX0_spread_95 : decode cX0_spread 95 = .ok (.goto (-72), 3) := by decide +kernel
theorem dX0_spread_98 : decode cX0_spread 98 = .ok (.iload 4, 2) := by decide +kernel
theorem dX0_spread_100 : decode cX0_spread 100 = .ok (.istore_n 2, 1) := by decide +kernel
theorem dX0_spread_101 : decode cX0_spread 101 = .ok (.iinc 3 1, 3) := by decide +kernel
theorem dX0_spread_104 : decode cX0_spread 104 = .ok (.goto (-98), 3) := by decide +kernel
theorem dX0_spread_107 : decode cX0_spread 107 = .ok (.return_, 1) := by decide +kernel
abbrev cX0_due : ByteArray := prog_1_method_5_code
def yX0_due : MethodName := ⟨RX0, "due", "(I)I"⟩
theorem dX0_due_0 : decode cX0_due 0 = .ok (.aload_n 0, 1) := by decide +kernel
theorem dX0_due_1 : decode cX0_due 1 = .ok (.getfield 16, 3) := by decide +kernel
theorem dX0_due_4 : decode cX0_due 4 = .ok (.iload_n 1, 1) := by decide +kernel
theorem dX0_due_5 : decode cX0_due 5 = .ok (.iaload, 1) := by decide +kernel
theorem dX0_due_6 : decode cX0_due 6 = .ok (.aload_n 0, 1) := by decide +kernel
theorem dX0_due_7 : decode cX0_due 7 = .ok (.iload_n 1, 1) := by decide +kernel
theorem dX0_due_8 : decode cX0_due 8 = .ok (.invokevirtual 25, 3) := by decide +kernel
theorem dX0_due_11 : decode cX0_due 11 = .ok (.aload_n 0, 1) := by decide +kernel
theorem dX0_due_12 : decode cX0_due 12 = .ok (.getfield 19, 3) := by decide +kernel
theorem dX0_due_15 : decode cX0_due 15 = .ok (.iload_n 1, 1) := by decide +kernel
theorem dX0_due_16 : decode cX0_due 16 = .ok (.iaload, 1) := by decide +kernel
theorem dX0_due_17 : decode cX0_due 17 = .ok (.iconst (-1), 1) := by decide +kernel
theorem dX0_due_18 : decode cX0_due 18 = .ok (.ixor, 1) := by decide +kernel
theorem dX0_due_19 : decode cX0_due 19 = .ok (.iand, 1) := by decide +kernel
theorem dX0_due_20 : decode cX0_due 20 = .ok (.ior, 1) := by decide +kernel
theorem dX0_due_21 : decode cX0_due 21 = .ok (.ireturn, 1) := by decide +kernel
abbrev cX0_atEnd : ByteArray := prog_1_method_4_code
def yX0_atEnd : MethodName := ⟨RX0, "atEnd", "(I)I"⟩
theorem dX0_atEnd_0 : decode cX0_atEnd 0 = .ok (.iconst 0, 1) := by decide +kernel
theorem dX0_atEnd_1 : decode cX0_atEnd 1 = .ok (.istore_n 2, 1) := by decide +kernel
theorem dX0_atEnd_2 : decode cX0_atEnd 2 = .ok (.iconst 0, 1) := by decide +kernel
theorem dX0_atEnd_3 : decode cX0_atEnd 3 = .ok (.istore_n 3, 1) := by decide +kernel
theorem dX0_atEnd_4 : decode cX0_atEnd 4 = .ok (.iload_n 3, 1) := by decide +kernel
theorem dX0_atEnd_5 : decode cX0_atEnd 5 = .ok (.bipush 12, 2) := by decide +kernel
theorem dX0_atEnd_7 : decode cX0_atEnd 7 = .ok (.if_icmp .ge 32, 3) := by decide +kernel
theorem dX0_atEnd_10 : decode cX0_atEnd 10 = .ok (.aload_n 0, 1) := by decide +kernel
theorem dX0_atEnd_11 : decode cX0_atEnd 11 = .ok (.getfield 7, 3) := by decide +kernel
theorem dX0_atEnd_14 : decode cX0_atEnd 14 = .ok (.iload_n 1, 1) := by decide +kernel
theorem dX0_atEnd_15 : decode cX0_atEnd 15 = .ok (.iaload, 1) := by decide +kernel
theorem dX0_atEnd_16 : decode cX0_atEnd 16 = .ok (.iload_n 3, 1) := by decide +kernel
theorem dX0_atEnd_17 : decode cX0_atEnd 17 = .ok (.ishr, 1) := by decide +kernel
theorem dX0_atEnd_18 : decode cX0_atEnd 18 = .ok (.iconst 1, 1) := by decide +kernel
theorem dX0_atEnd_19 : decode cX0_atEnd 19 = .ok (.iand, 1) := by decide +kernel
theorem dX0_atEnd_20 : decode cX0_atEnd 20 = .ok (.iconst 1, 1) := by decide +kernel
theorem dX0_atEnd_21 : decode cX0_atEnd 21 = .ok (.if_icmp .ne 12, 3) := by decide +kernel
theorem dX0_atEnd_24 : decode cX0_atEnd 24 = .ok (.iload_n 2, 1) := by decide +kernel
theorem dX0_atEnd_25 : decode cX0_atEnd 25 = .ok (.aload_n 0, 1) := by decide +kernel
theorem dX0_atEnd_26 : decode cX0_atEnd 26 = .ok (.getfield 22, 3) := by decide +kernel
theorem dX0_atEnd_29 : decode cX0_atEnd 29 = .ok (.iload_n 3, 1) := by decide +kernel
theorem dX0_atEnd_30 : decode cX0_atEnd 30 = .ok (.iaload, 1) := by decide +kernel
theorem dX0_atEnd_31 : decode cX0_atEnd 31 = .ok (.ior, 1) := by decide +kernel
theorem dX0_atEnd_32 : decode cX0_atEnd 32 = .ok (.istore_n 2, 1) := by decide +kernel
theorem dX0_atEnd_33 : decode cX0_atEnd 33 = .ok (.iinc 3 1, 3) := by decide +kernel
theorem dX0_atEnd_36 : decode cX0_atEnd 36 = .ok (.goto (-32), 3) := by decide +kernel
theorem dX0_atEnd_39 : decode cX0_atEnd 39 = .ok (.iload_n 2, 1) := by decide +kernel
theorem dX0_atEnd_40 : decode cX0_atEnd 40 = .ok (.ireturn, 1) := by decide +kernel
abbrev cX0_part : ByteArray := prog_1_method_10_code
def yX0_part : MethodName := ⟨RX0, "part", "(II)V"⟩
theorem dX0_part_0 : decode cX0_part 0 = .ok (.aload_n 0, 1) := by decide +kernel
theorem dX0_part_1 : decode cX0_part 1 = .ok (.getfield 7, 3) := by decide +kernel
theorem dX0_part_4 : decode cX0_part 4 = .ok (.iload_n 1, 1) := by decide +kernel
theorem dX0_part_5 : decode cX0_part 5 = .ok (.iaload, 1) := by decide +kernel
theorem dX0_part_6 : decode cX0_part 6 = .ok (.iload_n 2, 1) := by decide +kernel
theorem dX0_part_7 : decode cX0_part 7 = .ok (.ishr, 1) := by decide +kernel
theorem dX0_part_8 : decode cX0_part 8 = .ok (.iconst 1, 1) := by decide +kernel
theorem dX0_part_9 : decode cX0_part 9 = .ok (.iand, 1) := by decide +kernel
theorem dX0_part_10 : decode cX0_part 10 = .ok (.iconst 1, 1) := by decide +kernel
theorem dX0_part_11 : decode cX0_part 11 = .ok (.if_icmp .ne 46, 3) := by decide +kernel
theorem dX0_part_14 : decode cX0_part 14 = .ok (.aload_n 0, 1) := by decide +kernel
theorem dX0_part_15 : decode cX0_part 15 = .ok (.getfield 7, 3) := by decide +kernel
theorem dX0_part_18 : decode cX0_part 18 = .ok (.iload_n 1, 1) := by decide +kernel
theorem dX0_part_19 : decode cX0_part 19 = .ok (.aload_n 0, 1) := by decide +kernel
theorem dX0_part_20 : decode cX0_part 20 = .ok (.getfield 7, 3) := by decide +kernel
theorem dX0_part_23 : decode cX0_part 23 = .ok (.iload_n 1, 1) := by decide +kernel
theorem dX0_part_24 : decode cX0_part 24 = .ok (.iaload, 1) := by decide +kernel
theorem dX0_part_25 : decode cX0_part 25 = .ok (.iconst 1, 1) := by decide +kernel
theorem dX0_part_26 : decode cX0_part 26 = .ok (.iload_n 2, 1) := by decide +kernel
theorem dX0_part_27 : decode cX0_part 27 = .ok (.ishl, 1) := by decide +kernel
theorem dX0_part_28 : decode cX0_part 28 = .ok (.iconst (-1), 1) := by decide +kernel
theorem dX0_part_29 : decode cX0_part 29 = .ok (.ixor, 1) := by decide +kernel
theorem dX0_part_30 : decode cX0_part 30 = .ok (.iand, 1) := by decide +kernel
theorem dX0_part_31 : decode cX0_part 31 = .ok (.iastore, 1) := by decide +kernel
theorem dX0_part_32 : decode cX0_part 32 = .ok (.aload_n 0, 1) := by decide +kernel
theorem dX0_part_33 : decode cX0_part 33 = .ok (.getfield 13, 3) := by decide +kernel
theorem dX0_part_36 : decode cX0_part 36 = .ok (.iload_n 2, 1) := by decide +kernel
theorem dX0_part_37 : decode cX0_part 37 = .ok (.aload_n 0, 1) := by decide +kernel
theorem dX0_part_38 : decode cX0_part 38 = .ok (.getfield 13, 3) := by decide +kernel
theorem dX0_part_41 : decode cX0_part 41 = .ok (.iload_n 2, 1) := by decide +kernel
theorem dX0_part_42 : decode cX0_part 42 = .ok (.iaload, 1) := by decide +kernel
theorem dX0_part_43 : decode cX0_part 43 = .ok (.iconst 1, 1) := by decide +kernel
theorem dX0_part_44 : decode cX0_part 44 = .ok (.iload_n 1, 1) := by decide +kernel
theorem dX0_part_45 : decode cX0_part 45 = .ok (.ishl, 1) := by decide +kernel
theorem dX0_part_46 : decode cX0_part 46 = .ok (.iconst (-1), 1) := by decide +kernel
theorem dX0_part_47 : decode cX0_part 47 = .ok (.ixor, 1) := by decide +kernel
theorem dX0_part_48 : decode cX0_part 48 = .ok (.iand, 1) := by decide +kernel
theorem dX0_part_49 : decode cX0_part 49 = .ok (.iastore, 1) := by decide +kernel
theorem dX0_part_50 : decode cX0_part 50 = .ok (.aload_n 0, 1) := by decide +kernel
theorem dX0_part_51 : decode cX0_part 51 = .ok (.iload_n 1, 1) := by decide +kernel
theorem dX0_part_52 : decode cX0_part 52 = .ok (.ldc 39, 2) := by decide +kernel
theorem dX0_part_54 : decode cX0_part 54 = .ok (.invokevirtual 40, 3) := by decide +kernel
theorem dX0_part_57 : decode cX0_part 57 = .ok (.return_, 1) := by decide +kernel
abbrev cX0_shrink : ByteArray := prog_1_method_8_code
def yX0_shrink : MethodName := ⟨RX0, "shrink", "(II)V"⟩
theorem dX0_shrink_0 : decode cX0_shrink 0 = .ok (.iload_n 2, 1) := by decide +kernel
theorem dX0_shrink_1 : decode cX0_shrink 1 = .ok (.aload_n 0, 1) := by decide +kernel
theorem dX0_shrink_2 : decode cX0_shrink 2 = .ok (.getfield 22, 3) := by decide +kernel
theorem dX0_shrink_5 : decode cX0_shrink 5 = .ok (.iload_n 1, 1) := by decide +kernel
theorem dX0_shrink_6 : decode cX0_shrink 6 = .ok (.iaload, 1) := by decide +kernel
theorem dX0_shrink_7 : decode cX0_shrink 7 = .ok (.iand, 1) := by decide +kernel
theorem dX0_shrink_8 : decode cX0_shrink 8 = .ok (.istore_n 3, 1) := by decide +kernel
theorem dX0_shrink_9 : decode cX0_shrink 9 = .ok (.iload_n 3, 1) := by decide +kernel
theorem dX0_shrink_10 : decode cX0_shrink 10 = .ok (.ifCond .ne 4, 3) := by decide +kernel
theorem dX0_shrink_13 : decode cX0_shrink 13 = .ok (.return_, 1) := by decide +kernel
theorem dX0_shrink_14 : decode cX0_shrink 14 = .ok (.aload_n 0, 1) := by decide +kernel
theorem dX0_shrink_15 : decode cX0_shrink 15 = .ok (.iload_n 1, 1) := by decide +kernel
theorem dX0_shrink_16 : decode cX0_shrink 16 = .ok (.invokevirtual 32, 3) := by decide +kernel
theorem dX0_shrink_19 : decode cX0_shrink 19 = .ok (.istore 4, 2) := by decide +kernel
theorem dX0_shrink_21 : decode cX0_shrink 21 = .ok (.iconst 0, 1) := by decide +kernel
theorem dX0_shrink_22 : decode cX0_shrink 22 = .ok (.istore 5, 2) := by decide +kernel
theorem dX0_shrink_24 : decode cX0_shrink 24 = .ok (.iload 5, 2) := by decide +kernel
theorem dX0_shrink_26 : decode cX0_shrink 26 = .ok (.bipush 12, 2) := by decide +kernel
theorem dX0_shrink_28 : decode cX0_shrink 28 = .ok (.if_icmp .ge 38, 3) := by decide +kernel
theorem dX0_shrink_31 : decode cX0_shrink 31 = .ok (.iload 4, 2) := by decide +kernel
theorem dX0_shrink_33 : decode cX0_shrink 33 = .ok (.iload 5, 2) := by decide +kernel
theorem dX0_shrink_35 : decode cX0_shrink 35 = .ok (.ishr, 1) := by decide +kernel
theorem dX0_shrink_36 : decode cX0_shrink 36 = .ok (.iconst 1, 1) := by decide +kernel
theorem dX0_shrink_37 : decode cX0_shrink 37 = .ok (.iand, 1) := by decide +kernel
theorem dX0_shrink_38 : decode cX0_shrink 38 = .ok (.iconst 1, 1) := by decide +kernel
theorem dX0_shrink_39 : decode cX0_shrink 39 = .ok (.if_icmp .ne 21, 3) := by decide +kernel
theorem dX0_shrink_42 : decode cX0_shrink 42 = .ok (.aload_n 0, 1) := by decide +kernel
theorem dX0_shrink_43 : decode cX0_shrink 43 = .ok (.getfield 22, 3) := by decide +kernel
theorem dX0_shrink_46 : decode cX0_shrink 46 = .ok (.iload 5, 2) := by decide +kernel
theorem dX0_shrink_48 : decode cX0_shrink 48 = .ok (.aload_n 0, 1) := by decide +kernel
theorem dX0_shrink_49 : decode cX0_shrink 49 = .ok (.getfield 22, 3) := by decide +kernel
theorem dX0_shrink_52 : decode cX0_shrink 52 = .ok (.iload 5, 2) := by decide +kernel
theorem dX0_shrink_54 : decode cX0_shrink 54 = .ok (.iaload, 1) := by decide +kernel
theorem dX0_shrink_55 : decode cX0_shrink 55 = .ok (.iload_n 3, 1) := by decide +kernel
theorem dX0_shrink_56 : decode cX0_shrink 56 = .ok (.iconst (-1), 1) := by decide +kernel
theorem dX0_shrink_57 : decode cX0_shrink 57 = .ok (.ixor, 1) := by decide +kernel
theorem dX0_shrink_58 : decode cX0_shrink 58 = .ok (.iand, 1) := by decide +kernel
theorem dX0_shrink_59 : decode cX0_shrink 59 = .ok (.iastore, 1) := by decide +kernel
theorem dX0_shrink_60 : decode cX0_shrink 60 = .ok (.iinc 5 1, 3) := by decide +kernel
theorem dX0_shrink_63 : decode cX0_shrink 63 = .ok (.goto (-39), 3) := by decide +kernel
theorem dX0_shrink_66 : decode cX0_shrink 66 = .ok (.iconst 1, 1) := by decide +kernel
theorem dX0_shrink_67 : decode cX0_shrink 67 = .ok (.istore 5, 2) := by decide +kernel
theorem dX0_shrink_69 : decode cX0_shrink 69 = .ok (.iconst 0, 1) := by decide +kernel
theorem dX0_shrink_70 : decode cX0_shrink 70 = .ok (.istore 6, 2) := by decide +kernel
theorem dX0_shrink_72 : decode cX0_shrink 72 = .ok (.iload 6, 2) := by decide +kernel
theorem dX0_shrink_74 : decode cX0_shrink 74 = .ok (.sipush 241, 3) := by decide +kernel
theorem dX0_shrink_77 : decode cX0_shrink 77 = .ok (.if_icmp .ge 88, 3) := by decide +kernel
theorem dX0_shrink_80 : decode cX0_shrink 80 = .ok (.iload 5, 2) := by decide +kernel
theorem dX0_shrink_82 : decode cX0_shrink 82 = .ok (.ifCond .eq 83, 3) := by decide +kernel
theorem dX0_shrink_85 : decode cX0_shrink 85 = .ok (.iconst 0, 1) := by decide +kernel
theorem dX0_shrink_86 : decode cX0_shrink 86 = .ok (.istore 5, 2) := by decide +kernel
theorem dX0_shrink_88 : decode cX0_shrink 88 = .ok (.bipush 11, 2) := by decide +kernel
theorem dX0_shrink_90 : decode cX0_shrink 90 = .ok (.istore 7, 2) := by decide +kernel
theorem dX0_shrink_92 : decode cX0_shrink 92 = .ok (.iload 7, 2) := by decide +kernel
theorem dX0_shrink_94 : decode cX0_shrink 94 = .ok (.ifCond .lt 65, 3) := by decide +kernel
theorem dX0_shrink_97 : decode cX0_shrink 97 = .ok (.iload 4, 2) := by decide +kernel
theorem dX0_shrink_99 : decode cX0_shrink 99 = .ok (.iload 7, 2) := by decide +kernel
theorem dX0_shrink_101 : decode cX0_shrink 101 = .ok (.ishr, 1) := by decide +kernel
theorem dX0_shrink_102 : decode cX0_shrink 102 = .ok (.iconst 1, 1) := by decide +kernel
theorem dX0_shrink_103 : decode cX0_shrink 103 = .ok (.iand, 1) := by decide +kernel
theorem dX0_shrink_104 : decode cX0_shrink 104 = .ok (.iconst 1, 1) := by decide +kernel
theorem dX0_shrink_105 : decode cX0_shrink 105 = .ok (.if_icmp .ne 48, 3) := by decide +kernel
theorem dX0_shrink_108 : decode cX0_shrink 108 = .ok (.aload_n 0, 1) := by decide +kernel
theorem dX0_shrink_109 : decode cX0_shrink 109 = .ok (.iload 7, 2) := by decide +kernel
theorem dX0_shrink_111 : decode cX0_shrink 111 = .ok (.invokevirtual 29, 3) := by decide +kernel
theorem dX0_shrink_114 : decode cX0_shrink 114 = .ok (.iload_n 3, 1) := by decide +kernel
theorem dX0_shrink_115 : decode cX0_shrink 115 = .ok (.iand, 1) := by decide +kernel
theorem dX0_shrink_116 : decode cX0_shrink 116 = .ok (.istore 8, 2) := by decide +kernel
theorem dX0_shrink_118 : decode cX0_shrink 118 = .ok (.iload 8, 2) := by decide +kernel
theorem dX0_shrink_120 : decode cX0_shrink 120 = .ok (.aload_n 0, 1) := by decide +kernel
theorem dX0_shrink_121 : decode cX0_shrink 121 = .ok (.getfield 22, 3) := by decide +kernel
theorem dX0_shrink_124 : decode cX0_shrink 124 = .ok (.iload 7, 2) := by decide +kernel
theorem dX0_shrink_126 : decode cX0_shrink 126 = .ok (.iaload, 1) := by decide +kernel
theorem dX0_shrink_127 : decode cX0_shrink 127 = .ok (.iconst (-1), 1) := by decide +kernel
theorem dX0_shrink_128 : decode cX0_shrink 128 = .ok (.ixor, 1) := by decide +kernel
theorem dX0_shrink_129 : decode cX0_shrink 129 = .ok (.iand, 1) := by decide +kernel
theorem dX0_shrink_130 : decode cX0_shrink 130 = .ok (.ifCond .eq 23, 3) := by decide +kernel
theorem dX0_shrink_133 : decode cX0_shrink 133 = .ok (.aload_n 0, 1) := by decide +kernel
theorem dX0_shrink_134 : decode cX0_shrink 134 = .ok (.getfield 22, 3) := by decide +kernel
theorem dX0_shrink_137 : decode cX0_shrink 137 = .ok (.iload 7, 2) := by decide +kernel
theorem dX0_shrink_139 : decode cX0_shrink 139 = .ok (.aload_n 0, 1) := by decide +kernel
theorem dX0_shrink_140 : decode cX0_shrink 140 = .ok (.getfield 22, 3) := by decide +kernel
theorem dX0_shrink_143 : decode cX0_shrink 143 = .ok (.iload 7, 2) := by decide +kernel
theorem dX0_shrink_145 : decode cX0_shrink 145 = .ok (.iaload, 1) := by decide +kernel
theorem dX0_shrink_146 : decode cX0_shrink 146 = .ok (.iload 8, 2) := by decide +kernel
theorem dX0_shrink_148 : decode cX0_shrink 148 = .ok (.ior, 1) := by decide +kernel
theorem dX0_shrink_149 : decode cX0_shrink 149 = .ok (.iastore, 1) := by decide +kernel
theorem dX0_shrink_150 : decode cX0_shrink 150 = .ok (.iconst 1, 1) := by decide +kernel
theorem dX0_shrink_151 : decode cX0_shrink 151 = .ok (.istore 5, 2) := by decide +kernel
theorem dX0_shrink_153 : decode cX0_shrink 153 = .ok (.iinc 7 (-1), 3) := by decide +kernel
theorem dX0_shrink_156 : decode cX0_shrink 156 = .ok (.goto (-64), 3) := by decide +kernel
theorem dX0_shrink_159 : decode cX0_shrink 159 = .ok (.iinc 6 1, 3) := by decide +kernel
theorem dX0_shrink_162 : decode cX0_shrink 162 = .ok (.goto (-90), 3) := by decide +kernel
theorem dX0_shrink_165 : decode cX0_shrink 165 = .ok (.return_, 1) := by decide +kernel
abbrev cX0_behind : ByteArray := prog_1_method_7_code
def yX0_behind : MethodName := ⟨RX0, "behind", "(I)I"⟩
theorem dX0_behind_0 : decode cX0_behind 0 = .ok (.iconst 1, 1) := by decide +kernel
theorem dX0_behind_1 : decode cX0_behind 1 = .ok (.iload_n 1, 1) := by decide +kernel
theorem dX0_behind_2 : decode cX0_behind 2 = .ok (.ishl, 1) := by decide +kernel
theorem dX0_behind_3 : decode cX0_behind 3 = .ok (.istore_n 2, 1) := by decide +kernel
theorem dX0_behind_4 : decode cX0_behind 4 = .ok (.iconst 0, 1) := by decide +kernel
theorem dX0_behind_5 : decode cX0_behind 5 = .ok (.istore_n 3, 1) := by decide +kernel
theorem dX0_behind_6 : decode cX0_behind 6 = .ok (.iload_n 3, 1) := by decide +kernel
theorem dX0_behind_7 : decode cX0_behind 7 = .ok (.bipush 12, 2) := by decide +kernel
theorem dX0_behind_9 : decode cX0_behind 9 = .ok (.if_icmp .ge 45, 3) := by decide +kernel
theorem dX0_behind_12 : decode cX0_behind 12 = .ok (.iconst 0, 1) := by decide +kernel
theorem dX0_behind_13 : decode cX0_behind 13 = .ok (.istore 4, 2) := by decide +kernel
theorem dX0_behind_15 : decode cX0_behind 15 = .ok (.iload 4, 2) := by decide +kernel
theorem dX0_behind_17 : decode cX0_behind 17 = .ok (.bipush 12, 2) := by decide +kernel
theorem dX0_behind_19 : decode cX0_behind 19 = .ok (.if_icmp .ge 29, 3) := by decide +kernel
theorem dX0_behind_22 : decode cX0_behind 22 = .ok (.iload_n 2, 1) := by decide +kernel
theorem dX0_behind_23 : decode cX0_behind 23 = .ok (.iload 4, 2) := by decide +kernel
theorem dX0_behind_25 : decode cX0_behind 25 = .ok (.ishr, 1) := by decide +kernel
theorem dX0_behind_26 : decode cX0_behind 26 = .ok (.iconst 1, 1) := by decide +kernel
theorem dX0_behind_27 : decode cX0_behind 27 = .ok (.iand, 1) := by decide +kernel
theorem dX0_behind_28 : decode cX0_behind 28 = .ok (.iconst 1, 1) := by decide +kernel
theorem dX0_behind_29 : decode cX0_behind 29 = .ok (.if_icmp .ne 13, 3) := by decide +kernel
theorem dX0_behind_32 : decode cX0_behind 32 = .ok (.iload_n 2, 1) := by decide +kernel
theorem dX0_behind_33 : decode cX0_behind 33 = .ok (.aload_n 0, 1) := by decide +kernel
theorem dX0_behind_34 : decode cX0_behind 34 = .ok (.getfield 13, 3) := by decide +kernel
theorem dX0_behind_37 : decode cX0_behind 37 = .ok (.iload 4, 2) := by decide +kernel
theorem dX0_behind_39 : decode cX0_behind 39 = .ok (.iaload, 1) := by decide +kernel
theorem dX0_behind_40 : decode cX0_behind 40 = .ok (.ior, 1) := by decide +kernel
theorem dX0_behind_41 : decode cX0_behind 41 = .ok (.istore_n 2, 1) := by decide +kernel
theorem dX0_behind_42 : decode cX0_behind 42 = .ok (.iinc 4 1, 3) := by decide +kernel
theorem dX0_behind_45 : decode cX0_behind 45 = .ok (.goto (-30), 3) := by decide +kernel
theorem dX0_behind_48 : decode cX0_behind 48 = .ok (.iinc 3 1, 3) := by decide +kernel
theorem dX0_behind_51 : decode cX0_behind 51 = .ok (.goto (-45), 3) := by decide +kernel
theorem dX0_behind_54 : decode cX0_behind 54 = .ok (.iload_n 2, 1) := by decide +kernel
theorem dX0_behind_55 : decode cX0_behind 55 = .ok (.ireturn, 1) := by decide +kernel
abbrev cX0_hasArc : ByteArray := prog_1_method_12_code
def yX0_hasArc : MethodName := ⟨RX0, "hasArc", "(II)Z"⟩
theorem dX0_hasArc_0 : decode cX0_hasArc 0 = .ok (.aload_n 0, 1) := by decide +kernel
theorem dX0_hasArc_1 : decode cX0_hasArc 1 = .ok (.iload_n 1, 1) := by decide +kernel
theorem dX0_hasArc_2 : decode cX0_hasArc 2 = .ok (.invokevirtual 44, 3) := by decide +kernel
theorem dX0_hasArc_5 : decode cX0_hasArc 5 = .ok (.ifCond .ne 29, 3) := by decide +kernel
theorem dX0_hasArc_8 : decode cX0_hasArc 8 = .ok (.aload_n 0, 1) := by decide +kernel
theorem dX0_hasArc_9 : decode cX0_hasArc 9 = .ok (.iload_n 2, 1) := by decide +kernel
theorem dX0_hasArc_10 : decode cX0_hasArc 10 = .ok (.invokevirtual 44, 3) := by decide +kernel
theorem dX0_hasArc_13 : decode cX0_hasArc 13 = .ok (.ifCond .ne 21, 3) := by decide +kernel
theorem dX0_hasArc_16 : decode cX0_hasArc 16 = .ok (.aload_n 0, 1) := by decide +kernel
theorem dX0_hasArc_17 : decode cX0_hasArc 17 = .ok (.getfield 7, 3) := by decide +kernel
theorem dX0_hasArc_20 : decode cX0_hasArc 20 = .ok (.iload_n 1, 1) := by decide +kernel
theorem dX0_hasArc_21 : decode cX0_hasArc 21 = .ok (.iaload, 1) := by decide +kernel
theorem dX0_hasArc_22 : decode cX0_hasArc 22 = .ok (.iload_n 2, 1) := by decide +kernel
theorem dX0_hasArc_23 : decode cX0_hasArc 23 = .ok (.ishr, 1) := by decide +kernel
theorem dX0_hasArc_24 : decode cX0_hasArc 24 = .ok (.iconst 1, 1) := by decide +kernel
theorem dX0_hasArc_25 : decode cX0_hasArc 25 = .ok (.iand, 1) := by decide +kernel
theorem dX0_hasArc_26 : decode cX0_hasArc 26 = .ok (.iconst 1, 1) := by decide +kernel
theorem dX0_hasArc_27 : decode cX0_hasArc 27 = .ok (.if_icmp .ne 7, 3) := by decide +kernel
theorem dX0_hasArc_30 : decode cX0_hasArc 30 = .ok (.iconst 1, 1) := by decide +kernel
theorem dX0_hasArc_31 : decode cX0_hasArc 31 = .ok (.goto 4, 3) := by decide +kernel
theorem dX0_hasArc_34 : decode cX0_hasArc 34 = .ok (.iconst 0, 1) := by decide +kernel
theorem dX0_hasArc_35 : decode cX0_hasArc 35 = .ok (.ireturn, 1) := by decide +kernel
abbrev cX0_use : ByteArray := prog_1_method_14_code
def yX0_use : MethodName := ⟨RX0, "use", "(III)I"⟩
theorem dX0_use_0 : decode cX0_use 0 = .ok (.aload_n 0, 1) := by decide +kernel
theorem dX0_use_1 : decode cX0_use 1 = .ok (.iload_n 1, 1) := by decide +kernel
theorem dX0_use_2 : decode cX0_use 2 = .ok (.invokevirtual 44, 3) := by decide +kernel
theorem dX0_use_5 : decode cX0_use 5 = .ok (.ifCond .ne 11, 3) := by decide +kernel
theorem dX0_use_8 : decode cX0_use 8 = .ok (.aload_n 0, 1) := by decide +kernel
theorem dX0_use_9 : decode cX0_use 9 = .ok (.iload_n 2, 1) := by decide +kernel
theorem dX0_use_10 : decode cX0_use 10 = .ok (.invokevirtual 54, 3) := by decide +kernel
theorem dX0_use_13 : decode cX0_use 13 = .ok (.ifCond .eq 5, 3) := by decide +kernel
theorem dX0_use_16 : decode cX0_use 16 = .ok (.iconst (-1), 1) := by decide +kernel
theorem dX0_use_17 : decode cX0_use 17 = .ok (.ireturn, 1) := by decide +kernel
theorem dX0_use_18 : decode cX0_use 18 = .ok (.aload_n 0, 1) := by decide +kernel
theorem dX0_use_19 : decode cX0_use 19 = .ok (.getfield 16, 3) := by decide +kernel
theorem dX0_use_22 : decode cX0_use 22 = .ok (.iload_n 1, 1) := by decide +kernel
theorem dX0_use_23 : decode cX0_use 23 = .ok (.iaload, 1) := by decide +kernel
theorem dX0_use_24 : decode cX0_use 24 = .ok (.iload_n 2, 1) := by decide +kernel
theorem dX0_use_25 : decode cX0_use 25 = .ok (.ishr, 1) := by decide +kernel
theorem dX0_use_26 : decode cX0_use 26 = .ok (.iconst 1, 1) := by decide +kernel
theorem dX0_use_27 : decode cX0_use 27 = .ok (.iand, 1) := by decide +kernel
theorem dX0_use_28 : decode cX0_use 28 = .ok (.istore 4, 2) := by decide +kernel
theorem dX0_use_30 : decode cX0_use 30 = .ok (.aload_n 0, 1) := by decide +kernel
theorem dX0_use_31 : decode cX0_use 31 = .ok (.getfield 16, 3) := by decide +kernel
theorem dX0_use_34 : decode cX0_use 34 = .ok (.iload_n 1, 1) := by decide +kernel
theorem dX0_use_35 : decode cX0_use 35 = .ok (.iaload, 1) := by decide +kernel
theorem dX0_use_36 : decode cX0_use 36 = .ok (.iconst 1, 1) := by decide +kernel
theorem dX0_use_37 : decode cX0_use 37 = .ok (.iload_n 2, 1) := by decide +kernel
theorem dX0_use_38 : decode cX0_use 38 = .ok (.ishl, 1) := by decide +kernel
theorem dX0_use_39 : decode cX0_use 39 = .ok (.iconst (-1), 1) := by decide +kernel
theorem dX0_use_40 : decode cX0_use 40 = .ok (.ixor, 1) := by decide +kernel
theorem dX0_use_41 : decode cX0_use 41 = .ok (.iand, 1) := by decide +kernel
theorem dX0_use_42 : decode cX0_use 42 = .ok (.istore 5, 2) := by decide +kernel
theorem dX0_use_44 : decode cX0_use 44 = .ok (.aload_n 0, 1) := by decide +kernel
theorem dX0_use_45 : decode cX0_use 45 = .ok (.iload_n 1, 1) := by decide +kernel
theorem dX0_use_46 : decode cX0_use 46 = .ok (.iload_n 3, 1) := by decide +kernel
theorem dX0_use_47 : decode cX0_use 47 = .ok (.ifCond .eq 12, 3) := by decide +kernel
theorem dX0_use_50 : decode cX0_use 50 = .ok (.iload 5, 2) := by decide +kernel
theorem dX0_use_52 : decode cX0_use 52 = .ok (.iconst 1, 1) := by decide +kernel
theorem dX0_use_53 : decode cX0_use 53 = .ok (.iload_n 2, 1) := by decide +kernel
theorem dX0_use_54 : decode cX0_use 54 = .ok (.ishl, 1) := by decide +kernel
theorem dX0_use_55 : decode cX0_use 55 = .ok (.ior, 1) := by decide +kernel
theorem dX0_use_56 : decode cX0_use 56 = .ok (.goto 5, 3) := by decide +kernel
theorem dX0_use_59 : decode cX0_use 59 = .ok (.iload 5, 2) := by decide +kernel
theorem dX0_use_61 : decode cX0_use 61 = .ok (.aload_n 0, 1) := by decide +kernel
theorem dX0_use_62 : decode cX0_use 62 = .ok (.getfield 19, 3) := by decide +kernel
theorem dX0_use_65 : decode cX0_use 65 = .ok (.iload_n 1, 1) := by decide +kernel
theorem dX0_use_66 : decode cX0_use 66 = .ok (.iaload, 1) := by decide +kernel
theorem dX0_use_67 : decode cX0_use 67 = .ok (.invokevirtual 57, 3) := by decide +kernel
theorem dX0_use_70 : decode cX0_use 70 = .ok (.iload 4, 2) := by decide +kernel
theorem dX0_use_72 : decode cX0_use 72 = .ok (.ireturn, 1) := by decide +kernel
abbrev cX0_badVariable : ByteArray := prog_1_method_3_code
def yX0_badVariable : MethodName := ⟨RX0, "badVariable", "(I)Z"⟩
theorem dX0_badVariable_0 : decode cX0_badVariable 0 = .ok (.iload_n 1, 1) := by decide +kernel
theorem dX0_badVariable_1 : decode cX0_badVariable 1 = .ok (.ifCond .lt 9, 3) := by decide +kernel
theorem dX0_badVariable_4 : decode cX0_badVariable 4 = .ok (.iload_n 1, 1) := by decide +kernel
theorem dX0_badVariable_5 : decode cX0_badVariable 5 = .ok (.bipush 20, 2) := by decide +kernel
theorem dX0_badVariable_7 : decode cX0_badVariable 7 = .ok (.if_icmp .lt 7, 3) := by decide +kernel
theorem dX0_badVariable_10 : decode cX0_badVariable 10 = .ok (.iconst 1, 1) := by decide +kernel
theorem dX0_badVariable_11 : decode cX0_badVariable 11 = .ok (.goto 4, 3) := by decide +kernel
theorem dX0_badVariable_14 : decode cX0_badVariable 14 = .ok (.iconst 0, 1) := by decide +kernel
theorem dX0_badVariable_15 : decode cX0_badVariable 15 = .ok (.ireturn, 1) := by decide +kernel
abbrev cX0_change : ByteArray := prog_1_method_13_code
def yX0_change : MethodName := ⟨RX0, "change", "(III)V"⟩
theorem dX0_change_0 : decode cX0_change 0 = .ok (.aload_n 0, 1) := by decide +kernel
theorem dX0_change_1 : decode cX0_change 1 = .ok (.getfield 16, 3) := by decide +kernel
theorem dX0_change_4 : decode cX0_change 4 = .ok (.iload_n 1, 1) := by decide +kernel
theorem dX0_change_5 : decode cX0_change 5 = .ok (.iaload, 1) := by decide +kernel
theorem dX0_change_6 : decode cX0_change 6 = .ok (.iload_n 2, 1) := by decide +kernel
theorem dX0_change_7 : decode cX0_change 7 = .ok (.iconst (-1), 1) := by decide +kernel
theorem dX0_change_8 : decode cX0_change 8 = .ok (.ixor, 1) := by decide +kernel
theorem dX0_change_9 : decode cX0_change 9 = .ok (.iand, 1) := by decide +kernel
theorem dX0_change_10 : decode cX0_change 10 = .ok (.iload_n 3, 1) := by decide +kernel
theorem dX0_change_11 : decode cX0_change 11 = .ok (.aload_n 0, 1) := by decide +kernel
theorem dX0_change_12 : decode cX0_change 12 = .ok (.getfield 19, 3) := by decide +kernel
theorem dX0_change_15 : decode cX0_change 15 = .ok (.iload_n 1, 1) := by decide +kernel
theorem dX0_change_16 : decode cX0_change 16 = .ok (.iaload, 1) := by decide +kernel
theorem dX0_change_17 : decode cX0_change 17 = .ok (.iconst (-1), 1) := by decide +kernel
theorem dX0_change_18 : decode cX0_change 18 = .ok (.ixor, 1) := by decide +kernel
theorem dX0_change_19 : decode cX0_change 19 = .ok (.iand, 1) := by decide +kernel
theorem dX0_change_20 : decode cX0_change 20 = .ok (.ior, 1) := by decide +kernel
theorem dX0_change_21 : decode cX0_change 21 = .ok (.istore 4, 2) := by decide +kernel
theorem dX0_change_23 : decode cX0_change 23 = .ok (.aload_n 0, 1) := by decide +kernel
theorem dX0_change_24 : decode cX0_change 24 = .ok (.getfield 16, 3) := by decide +kernel
theorem dX0_change_27 : decode cX0_change 27 = .ok (.iload_n 1, 1) := by decide +kernel
theorem dX0_change_28 : decode cX0_change 28 = .ok (.iload_n 2, 1) := by decide +kernel
theorem dX0_change_29 : decode cX0_change 29 = .ok (.iastore, 1) := by decide +kernel
theorem dX0_change_30 : decode cX0_change 30 = .ok (.aload_n 0, 1) := by decide +kernel
theorem dX0_change_31 : decode cX0_change 31 = .ok (.getfield 19, 3) := by decide +kernel
theorem dX0_change_34 : decode cX0_change 34 = .ok (.iload_n 1, 1) := by decide +kernel
theorem dX0_change_35 : decode cX0_change 35 = .ok (.iload_n 3, 1) := by decide +kernel
theorem dX0_change_36 : decode cX0_change 36 = .ok (.iastore, 1) := by decide +kernel
theorem dX0_change_37 : decode cX0_change 37 = .ok (.aload_n 0, 1) := by decide +kernel
theorem dX0_change_38 : decode cX0_change 38 = .ok (.iload_n 1, 1) := by decide +kernel
theorem dX0_change_39 : decode cX0_change 39 = .ok (.iload 4, 2) := by decide +kernel
theorem dX0_change_41 : decode cX0_change 41 = .ok (.invokevirtual 40, 3) := by decide +kernel
theorem dX0_change_44 : decode cX0_change 44 = .ok (.aload_n 0, 1) := by decide +kernel
theorem dX0_change_45 : decode cX0_change 45 = .ok (.iload_n 1, 1) := by decide +kernel
theorem dX0_change_46 : decode cX0_change 46 = .ok (.invokevirtual 35, 3) := by decide +kernel
theorem dX0_change_49 : decode cX0_change 49 = .ok (.return_, 1) := by decide +kernel
abbrev cX0_set : ByteArray := prog_1_method_15_code
def yX0_set : MethodName := ⟨RX0, "set", "(III)I"⟩
theorem dX0_set_0 : decode cX0_set 0 = .ok (.aload_n 0, 1) := by decide +kernel
theorem dX0_set_1 : decode cX0_set 1 = .ok (.iload_n 1, 1) := by decide +kernel
theorem dX0_set_2 : decode cX0_set 2 = .ok (.invokevirtual 44, 3) := by decide +kernel
theorem dX0_set_5 : decode cX0_set 5 = .ok (.ifCond .ne 11, 3) := by decide +kernel
theorem dX0_set_8 : decode cX0_set 8 = .ok (.aload_n 0, 1) := by decide +kernel
theorem dX0_set_9 : decode cX0_set 9 = .ok (.iload_n 2, 1) := by decide +kernel
theorem dX0_set_10 : decode cX0_set 10 = .ok (.invokevirtual 54, 3) := by decide +kernel
theorem dX0_set_13 : decode cX0_set 13 = .ok (.ifCond .eq 5, 3) := by decide +kernel
theorem dX0_set_16 : decode cX0_set 16 = .ok (.iconst (-1), 1) := by decide +kernel
theorem dX0_set_17 : decode cX0_set 17 = .ok (.ireturn, 1) := by decide +kernel
theorem dX0_set_18 : decode cX0_set 18 = .ok (.aload_n 0, 1) := by decide +kernel
theorem dX0_set_19 : decode cX0_set 19 = .ok (.getfield 19, 3) := by decide +kernel
theorem dX0_set_22 : decode cX0_set 22 = .ok (.iload_n 1, 1) := by decide +kernel
theorem dX0_set_23 : decode cX0_set 23 = .ok (.iaload, 1) := by decide +kernel
theorem dX0_set_24 : decode cX0_set 24 = .ok (.iload_n 2, 1) := by decide +kernel
theorem dX0_set_25 : decode cX0_set 25 = .ok (.ishr, 1) := by decide +kernel
theorem dX0_set_26 : decode cX0_set 26 = .ok (.iconst 1, 1) := by decide +kernel
theorem dX0_set_27 : decode cX0_set 27 = .ok (.iand, 1) := by decide +kernel
theorem dX0_set_28 : decode cX0_set 28 = .ok (.istore 4, 2) := by decide +kernel
theorem dX0_set_30 : decode cX0_set 30 = .ok (.aload_n 0, 1) := by decide +kernel
theorem dX0_set_31 : decode cX0_set 31 = .ok (.getfield 19, 3) := by decide +kernel
theorem dX0_set_34 : decode cX0_set 34 = .ok (.iload_n 1, 1) := by decide +kernel
theorem dX0_set_35 : decode cX0_set 35 = .ok (.iaload, 1) := by decide +kernel
theorem dX0_set_36 : decode cX0_set 36 = .ok (.iconst 1, 1) := by decide +kernel
theorem dX0_set_37 : decode cX0_set 37 = .ok (.iload_n 2, 1) := by decide +kernel
theorem dX0_set_38 : decode cX0_set 38 = .ok (.ishl, 1) := by decide +kernel
theorem dX0_set_39 : decode cX0_set 39 = .ok (.iconst (-1), 1) := by decide +kernel
theorem dX0_set_40 : decode cX0_set 40 = .ok (.ixor, 1) := by decide +kernel
theorem dX0_set_41 : decode cX0_set 41 = .ok (.iand, 1) := by decide +kernel
theorem dX0_set_42 : decode cX0_set 42 = .ok (.istore 5, 2) := by decide +kernel
theorem dX0_set_44 : decode cX0_set 44 = .ok (.aload_n 0, 1) := by decide +kernel
theorem dX0_set_45 : decode cX0_set 45 = .ok (.iload_n 1, 1) := by decide +kernel
theorem dX0_set_46 : decode cX0_set 46 = .ok (.aload_n 0, 1) := by decide +kernel
theorem dX0_set_47 : decode cX0_set 47 = .ok (.getfield 16, 3) := by decide +kernel
theorem dX0_set_50 : decode cX0_set 50 = .ok (.iload_n 1, 1) := by decide +kernel
theorem dX0_set_51 : decode cX0_set 51 = .ok (.iaload, 1) := by decide +kernel
theorem dX0_set_52 : decode cX0_set 52 = .ok (.iload_n 3, 1) := by decide +kernel
theorem dX0_set_53 : decode cX0_set 53 = .ok (.ifCond .eq 12, 3) := by decide +kernel
theorem dX0_set_56 : decode cX0_set 56 = .ok (.iload 5, 2) := by decide +kernel
theorem dX0_set_58 : decode cX0_set 58 = .ok (.iconst 1, 1) := by decide +kernel
theorem dX0_set_59 : decode cX0_set 59 = .ok (.iload_n 2, 1) := by decide +kernel
theorem dX0_set_60 : decode cX0_set 60 = .ok (.ishl, 1) := by decide +kernel
theorem dX0_set_61 : decode cX0_set 61 = .ok (.ior, 1) := by decide +kernel
theorem dX0_set_62 : decode cX0_set 62 = .ok (.goto 5, 3) := by decide +kernel
theorem dX0_set_65 : decode cX0_set 65 = .ok (.iload 5, 2) := by decide +kernel
theorem dX0_set_67 : decode cX0_set 67 = .ok (.invokevirtual 57, 3) := by decide +kernel
theorem dX0_set_70 : decode cX0_set 70 = .ok (.iload 4, 2) := by decide +kernel
theorem dX0_set_72 : decode cX0_set 72 = .ok (.ireturn, 1) := by decide +kernel
abbrev cX0_block : ByteArray := prog_1_method_16_code
def yX0_block : MethodName := ⟨RX0, "block", "(III)I"⟩
theorem dX0_block_0 : decode cX0_block 0 = .ok (.aload_n 0, 1) := by decide +kernel
theorem dX0_block_1 : decode cX0_block 1 = .ok (.iload_n 1, 1) := by decide +kernel
theorem dX0_block_2 : decode cX0_block 2 = .ok (.invokevirtual 44, 3) := by decide +kernel
theorem dX0_block_5 : decode cX0_block 5 = .ok (.ifCond .ne 23, 3) := by decide +kernel
theorem dX0_block_8 : decode cX0_block 8 = .ok (.iload_n 2, 1) := by decide +kernel
theorem dX0_block_9 : decode cX0_block 9 = .ok (.ifCond .lt 19, 3) := by decide +kernel
theorem dX0_block_12 : decode cX0_block 12 = .ok (.iload_n 2, 1) := by decide +kernel
theorem dX0_block_13 : decode cX0_block 13 = .ok (.ldc 39, 2) := by decide +kernel
theorem dX0_block_15 : decode cX0_block 15 = .ok (.if_icmp .gt 13, 3) := by decide +kernel
theorem dX0_block_18 : decode cX0_block 18 = .ok (.iload_n 3, 1) := by decide +kernel
theorem dX0_block_19 : decode cX0_block 19 = .ok (.ifCond .lt 9, 3) := by decide +kernel
theorem dX0_block_22 : decode cX0_block 22 = .ok (.iload_n 3, 1) := by decide +kernel
theorem dX0_block_23 : decode cX0_block 23 = .ok (.ldc 39, 2) := by decide +kernel
theorem dX0_block_25 : decode cX0_block 25 = .ok (.if_icmp .le 5, 3) := by decide +kernel
theorem dX0_block_28 : decode cX0_block 28 = .ok (.iconst (-1), 1) := by decide +kernel
theorem dX0_block_29 : decode cX0_block 29 = .ok (.ireturn, 1) := by decide +kernel
theorem dX0_block_30 : decode cX0_block 30 = .ok (.aload_n 0, 1) := by decide +kernel
theorem dX0_block_31 : decode cX0_block 31 = .ok (.iload_n 1, 1) := by decide +kernel
theorem dX0_block_32 : decode cX0_block 32 = .ok (.iload_n 2, 1) := by decide +kernel
theorem dX0_block_33 : decode cX0_block 33 = .ok (.iload_n 3, 1) := by decide +kernel
theorem dX0_block_34 : decode cX0_block 34 = .ok (.invokevirtual 57, 3) := by decide +kernel
theorem dX0_block_37 : decode cX0_block 37 = .ok (.iconst 0, 1) := by decide +kernel
theorem dX0_block_38 : decode cX0_block 38 = .ok (.ireturn, 1) := by decide +kernel
abbrev cX0_cutOff : ByteArray := prog_1_method_17_code
def yX0_cutOff : MethodName := ⟨RX0, "cutOff", "(I)I"⟩
theorem dX0_cutOff_0 : decode cX0_cutOff 0 = .ok (.aload_n 0, 1) := by decide +kernel
theorem dX0_cutOff_1 : decode cX0_cutOff 1 = .ok (.iload_n 1, 1) := by decide +kernel
theorem dX0_cutOff_2 : decode cX0_cutOff 2 = .ok (.invokevirtual 44, 3) := by decide +kernel
theorem dX0_cutOff_5 : decode cX0_cutOff 5 = .ok (.ifCond .eq 5, 3) := by decide +kernel
theorem dX0_cutOff_8 : decode cX0_cutOff 8 = .ok (.iconst (-1), 1) := by decide +kernel
theorem dX0_cutOff_9 : decode cX0_cutOff 9 = .ok (.ireturn, 1) := by decide +kernel
theorem dX0_cutOff_10 : decode cX0_cutOff 10 = .ok (.iconst 0, 1) := by decide +kernel
theorem dX0_cutOff_11 : decode cX0_cutOff 11 = .ok (.istore_n 2, 1) := by decide +kernel
theorem dX0_cutOff_12 : decode cX0_cutOff 12 = .ok (.iconst 0, 1) := by decide +kernel
theorem dX0_cutOff_13 : decode cX0_cutOff 13 = .ok (.istore_n 3, 1) := by decide +kernel
theorem dX0_cutOff_14 : decode cX0_cutOff 14 = .ok (.iload_n 3, 1) := by decide +kernel
theorem dX0_cutOff_15 : decode cX0_cutOff 15 = .ok (.bipush 12, 2) := by decide +kernel
theorem dX0_cutOff_17 : decode cX0_cutOff 17 = .ok (.if_icmp .ge 47, 3) := by decide +kernel
theorem dX0_cutOff_20 : decode cX0_cutOff 20 = .ok (.iload_n 2, 1) := by decide +kernel
theorem dX0_cutOff_21 : decode cX0_cutOff 21 = .ok (.aload_n 0, 1) := by decide +kernel
theorem dX0_cutOff_22 : decode cX0_cutOff 22 = .ok (.getfield 7, 3) := by decide +kernel
theorem dX0_cutOff_25 : decode cX0_cutOff 25 = .ok (.iload_n 1, 1) := by decide +kernel
theorem dX0_cutOff_26 : decode cX0_cutOff 26 = .ok (.iaload, 1) := by decide +kernel
theorem dX0_cutOff_27 : decode cX0_cutOff 27 = .ok (.iload_n 3, 1) := by decide +kernel
theorem dX0_cutOff_28 : decode cX0_cutOff 28 = .ok (.ishr, 1) := by decide +kernel
theorem dX0_cutOff_29 : decode cX0_cutOff 29 = .ok (.iconst 1, 1) := by decide +kernel
theorem dX0_cutOff_30 : decode cX0_cutOff 30 = .ok (.iand, 1) := by decide +kernel
theorem dX0_cutOff_31 : decode cX0_cutOff 31 = .ok (.iadd, 1) := by decide +kernel
theorem dX0_cutOff_32 : decode cX0_cutOff 32 = .ok (.istore_n 2, 1) := by decide +kernel
theorem dX0_cutOff_33 : decode cX0_cutOff 33 = .ok (.aload_n 0, 1) := by decide +kernel
theorem dX0_cutOff_34 : decode cX0_cutOff 34 = .ok (.iload_n 1, 1) := by decide +kernel
theorem dX0_cutOff_35 : decode cX0_cutOff 35 = .ok (.iload_n 3, 1) := by decide +kernel
theorem dX0_cutOff_36 : decode cX0_cutOff 36 = .ok (.invokevirtual 51, 3) := by decide +kernel
theorem dX0_cutOff_39 : decode cX0_cutOff 39 = .ok (.iload_n 2, 1) := by decide +kernel
theorem dX0_cutOff_40 : decode cX0_cutOff 40 = .ok (.aload_n 0, 1) := by decide +kernel
theorem dX0_cutOff_41 : decode cX0_cutOff 41 = .ok (.getfield 7, 3) := by decide +kernel
theorem dX0_cutOff_44 : decode cX0_cutOff 44 = .ok (.iload_n 3, 1) := by decide +kernel
theorem dX0_cutOff_45 : decode cX0_cutOff 45 = .ok (.iaload, 1) := by decide +kernel
theorem dX0_cutOff_46 : decode cX0_cutOff 46 = .ok (.iload_n 1, 1) := by decide +kernel
theorem dX0_cutOff_47 : decode cX0_cutOff 47 = .ok (.ishr, 1) := by decide +kernel
theorem dX0_cutOff_48 : decode cX0_cutOff 48 = .ok (.iconst 1, 1) := by decide +kernel
theorem dX0_cutOff_49 : decode cX0_cutOff 49 = .ok (.iand, 1) := by decide +kernel
theorem dX0_cutOff_50 : decode cX0_cutOff 50 = .ok (.iadd, 1) := by decide +kernel
theorem dX0_cutOff_51 : decode cX0_cutOff 51 = .ok (.istore_n 2, 1) := by decide +kernel
theorem dX0_cutOff_52 : decode cX0_cutOff 52 = .ok (.aload_n 0, 1) := by decide +kernel
theorem dX0_cutOff_53 : decode cX0_cutOff 53 = .ok (.iload_n 3, 1) := by decide +kernel
theorem dX0_cutOff_54 : decode cX0_cutOff 54 = .ok (.iload_n 1, 1) := by decide +kernel
theorem dX0_cutOff_55 : decode cX0_cutOff 55 = .ok (.invokevirtual 51, 3) := by decide +kernel
theorem dX0_cutOff_58 : decode cX0_cutOff 58 = .ok (.iinc 3 1, 3) := by decide +kernel
theorem dX0_cutOff_61 : decode cX0_cutOff 61 = .ok (.goto (-47), 3) := by decide +kernel
theorem dX0_cutOff_64 : decode cX0_cutOff 64 = .ok (.iload_n 2, 1) := by decide +kernel
theorem dX0_cutOff_65 : decode cX0_cutOff 65 = .ok (.ireturn, 1) := by decide +kernel
abbrev cX0_takeOver : ByteArray := prog_1_method_18_code
def yX0_takeOver : MethodName := ⟨RX0, "takeOver", "(II)I"⟩
theorem dX0_takeOver_0 : decode cX0_takeOver 0 = .ok (.aload_n 0, 1) := by decide +kernel
theorem dX0_takeOver_1 : decode cX0_takeOver 1 = .ok (.iload_n 1, 1) := by decide +kernel
theorem dX0_takeOver_2 : decode cX0_takeOver 2 = .ok (.invokevirtual 44, 3) := by decide +kernel
theorem dX0_takeOver_5 : decode cX0_takeOver 5 = .ok (.ifCond .ne 16, 3) := by decide +kernel
theorem dX0_takeOver_8 : decode cX0_takeOver 8 = .ok (.aload_n 0, 1) := by decide +kernel
theorem dX0_takeOver_9 : decode cX0_takeOver 9 = .ok (.iload_n 2, 1) := by decide +kernel
theorem dX0_takeOver_10 : decode cX0_takeOver 10 = .ok (.invokevirtual 44, 3) := by decide +kernel
theorem dX0_takeOver_13 : decode cX0_takeOver 13 = .ok (.ifCond .ne 8, 3) := by decide +kernel
theorem dX0_takeOver_16 : decode cX0_takeOver 16 = .ok (.iload_n 1, 1) := by decide +kernel
theorem dX0_takeOver_17 : decode cX0_takeOver 17 = .ok (.iload_n 2, 1) := by decide +kernel
theorem dX0_takeOver_18 : decode cX0_takeOver 18 = .ok (.if_icmp .ne 5, 3) := by decide +kernel
theorem dX0_takeOver_21 : decode cX0_takeOver 21 = .ok (.iconst (-1), 1) := by decide +kernel
theorem dX0_takeOver_22 : decode cX0_takeOver 22 = .ok (.ireturn, 1) := by decide +kernel
theorem dX0_takeOver_23 : decode cX0_takeOver 23 = .ok (.iconst 0, 1) := by decide +kernel
theorem dX0_takeOver_24 : decode cX0_takeOver 24 = .ok (.istore_n 3, 1) := by decide +kernel
theorem dX0_takeOver_25 : decode cX0_takeOver 25 = .ok (.iconst 0, 1) := by decide +kernel
theorem dX0_takeOver_26 : decode cX0_takeOver 26 = .ok (.istore 4, 2) := by decide +kernel
theorem dX0_takeOver_28 : decode cX0_takeOver 28 = .ok (.iload 4, 2) := by decide +kernel
theorem dX0_takeOver_30 : decode cX0_takeOver 30 = .ok (.bipush 12, 2) := by decide +kernel
theorem dX0_takeOver_32 : decode cX0_takeOver 32 = .ok (.if_icmp .ge 54, 3) := by decide +kernel
theorem dX0_takeOver_35 : decode cX0_takeOver 35 = .ok (.aload_n 0, 1) := by decide +kernel
theorem dX0_takeOver_36 : decode cX0_takeOver 36 = .ok (.getfield 7, 3) := by decide +kernel
theorem dX0_takeOver_39 : decode cX0_takeOver 39 = .ok (.iload_n 2, 1) := by decide +kernel
theorem dX0_takeOver_40 : decode cX0_takeOver 40 = .ok (.iaload, 1) := by decide +kernel
theorem dX0_takeOver_41 : decode cX0_takeOver 41 = .ok (.iload 4, 2) := by decide +kernel
theorem dX0_takeOver_43 : decode cX0_takeOver 43 = .ok (.ishr, 1) := by decide +kernel
theorem dX0_takeOver_44 : decode cX0_takeOver 44 = .ok (.iconst 1, 1) := by decide +kernel
theorem dX0_takeOver_45 : decode cX0_takeOver 45 = .ok (.iand, 1) := by decide +kernel
theorem dX0_takeOver_46 : decode cX0_takeOver 46 = .ok (.iconst 1, 1) := by decide +kernel
theorem dX0_takeOver_47 : decode cX0_takeOver 47 = .ok (.if_icmp .ne 33, 3) := by decide +kernel
theorem dX0_takeOver_50 : decode cX0_takeOver 50 = .ok (.aload_n 0, 1) := by decide +kernel
theorem dX0_takeOver_51 : decode cX0_takeOver 51 = .ok (.iload_n 2, 1) := by decide +kernel
theorem dX0_takeOver_52 : decode cX0_takeOver 52 = .ok (.iload 4, 2) := by decide +kernel
theorem dX0_takeOver_54 : decode cX0_takeOver 54 = .ok (.invokevirtual 51, 3) := by decide +kernel
theorem dX0_takeOver_57 : decode cX0_takeOver 57 = .ok (.iload_n 3, 1) := by decide +kernel
theorem dX0_takeOver_58 : decode cX0_takeOver 58 = .ok (.iconst 1, 1) := by decide +kernel
theorem dX0_takeOver_59 : decode cX0_takeOver 59 = .ok (.iadd, 1) := by decide +kernel
theorem dX0_takeOver_60 : decode cX0_takeOver 60 = .ok (.aload_n 0, 1) := by decide +kernel
theorem dX0_takeOver_61 : decode cX0_takeOver 61 = .ok (.getfield 7, 3) := by decide +kernel
theorem dX0_takeOver_64 : decode cX0_takeOver 64 = .ok (.iload_n 1, 1) := by decide +kernel
theorem dX0_takeOver_65 : decode cX0_takeOver 65 = .ok (.iaload, 1) := by decide +kernel
theorem dX0_takeOver_66 : decode cX0_takeOver 66 = .ok (.iload 4, 2) := by decide +kernel
theorem dX0_takeOver_68 : decode cX0_takeOver 68 = .ok (.ishr, 1) := by decide +kernel
theorem dX0_takeOver_69 : decode cX0_takeOver 69 = .ok (.iconst 1, 1) := by decide +kernel
theorem dX0_takeOver_70 : decode cX0_takeOver 70 = .ok (.iand, 1) := by decide +kernel
theorem dX0_takeOver_71 : decode cX0_takeOver 71 = .ok (.isub, 1) := by decide +kernel
theorem dX0_takeOver_72 : decode cX0_takeOver 72 = .ok (.istore_n 3, 1) := by decide +kernel
theorem dX0_takeOver_73 : decode cX0_takeOver 73 = .ok (.aload_n 0, 1) := by decide +kernel
theorem dX0_takeOver_74 : decode cX0_takeOver 74 = .ok (.iload_n 1, 1) := by decide +kernel
theorem dX0_takeOver_75 : decode cX0_takeOver 75 = .ok (.iload 4, 2) := by decide +kernel
theorem dX0_takeOver_77 : decode cX0_takeOver 77 = .ok (.invokevirtual 48, 3) := by decide +kernel
theorem dX0_takeOver_80 : decode cX0_takeOver 80 = .ok (.iinc 4 1, 3) := by decide +kernel
theorem dX0_takeOver_83 : decode cX0_takeOver 83 = .ok (.goto (-55), 3) := by decide +kernel
theorem dX0_takeOver_86 : decode cX0_takeOver 86 = .ok (.iload_n 3, 1) := by decide +kernel
theorem dX0_takeOver_87 : decode cX0_takeOver 87 = .ok (.ireturn, 1) := by decide +kernel
abbrev cX0_liveIn : ByteArray := prog_1_method_19_code
def yX0_liveIn : MethodName := ⟨RX0, "liveIn", "(I)I"⟩
theorem dX0_liveIn_0 : decode cX0_liveIn 0 = .ok (.aload_n 0, 1) := by decide +kernel
theorem dX0_liveIn_1 : decode cX0_liveIn 1 = .ok (.iload_n 1, 1) := by decide +kernel
theorem dX0_liveIn_2 : decode cX0_liveIn 2 = .ok (.invokevirtual 44, 3) := by decide +kernel
theorem dX0_liveIn_5 : decode cX0_liveIn 5 = .ok (.ifCond .eq 7, 3) := by decide +kernel
theorem dX0_liveIn_8 : decode cX0_liveIn 8 = .ok (.iconst (-1), 1) := by decide +kernel
theorem dX0_liveIn_9 : decode cX0_liveIn 9 = .ok (.goto 9, 3) := by decide +kernel
theorem dX0_liveIn_12 : decode cX0_liveIn 12 = .ok (.aload_n 0, 1) := by decide +kernel
theorem dX0_liveIn_13 : decode cX0_liveIn 13 = .ok (.getfield 22, 3) := by decide +kernel
theorem dX0_liveIn_16 : decode cX0_liveIn 16 = .ok (.iload_n 1, 1) := by decide +kernel
theorem dX0_liveIn_17 : decode cX0_liveIn 17 = .ok (.iaload, 1) := by decide +kernel
theorem dX0_liveIn_18 : decode cX0_liveIn 18 = .ok (.ireturn, 1) := by decide +kernel
abbrev cX0_liveOut : ByteArray := prog_1_method_20_code
def yX0_liveOut : MethodName := ⟨RX0, "liveOut", "(I)I"⟩
theorem dX0_liveOut_0 : decode cX0_liveOut 0 = .ok (.aload_n 0, 1) := by decide +kernel
theorem dX0_liveOut_1 : decode cX0_liveOut 1 = .ok (.iload_n 1, 1) := by decide +kernel
theorem dX0_liveOut_2 : decode cX0_liveOut 2 = .ok (.invokevirtual 44, 3) := by decide +kernel
theorem dX0_liveOut_5 : decode cX0_liveOut 5 = .ok (.ifCond .eq 7, 3) := by decide +kernel
theorem dX0_liveOut_8 : decode cX0_liveOut 8 = .ok (.iconst (-1), 1) := by decide +kernel
theorem dX0_liveOut_9 : decode cX0_liveOut 9 = .ok (.goto 8, 3) := by decide +kernel
theorem dX0_liveOut_12 : decode cX0_liveOut 12 = .ok (.aload_n 0, 1) := by decide +kernel
theorem dX0_liveOut_13 : decode cX0_liveOut 13 = .ok (.iload_n 1, 1) := by decide +kernel
theorem dX0_liveOut_14 : decode cX0_liveOut 14 = .ok (.invokevirtual 25, 3) := by decide +kernel
theorem dX0_liveOut_17 : decode cX0_liveOut 17 = .ok (.ireturn, 1) := by decide +kernel
abbrev cX0_liveBlocks : ByteArray := prog_1_method_21_code
def yX0_liveBlocks : MethodName := ⟨RX0, "liveBlocks", "(I)I"⟩
theorem dX0_liveBlocks_0 : decode cX0_liveBlocks 0 = .ok (.aload_n 0, 1) := by decide +kernel
theorem dX0_liveBlocks_1 : decode cX0_liveBlocks 1 = .ok (.iload_n 1, 1) := by decide +kernel
theorem dX0_liveBlocks_2 : decode cX0_liveBlocks 2 = .ok (.invokevirtual 54, 3) := by decide +kernel
theorem dX0_liveBlocks_5 : decode cX0_liveBlocks 5 = .ok (.ifCond .eq 5, 3) := by decide +kernel
theorem dX0_liveBlocks_8 : decode cX0_liveBlocks 8 = .ok (.iconst (-1), 1) := by decide +kernel
theorem dX0_liveBlocks_9 : decode cX0_liveBlocks 9 = .ok (.ireturn, 1) := by decide +kernel
theorem dX0_liveBlocks_10 : decode cX0_liveBlocks 10 = .ok (.iconst 0, 1) := by decide +kernel
theorem dX0_liveBlocks_11 : decode cX0_liveBlocks 11 = .ok (.istore_n 2, 1) := by decide +kernel
theorem dX0_liveBlocks_12 : decode cX0_liveBlocks 12 = .ok (.iconst 0, 1) := by decide +kernel
theorem dX0_liveBlocks_13 : decode cX0_liveBlocks 13 = .ok (.istore_n 3, 1) := by decide +kernel
theorem dX0_liveBlocks_14 : decode cX0_liveBlocks 14 = .ok (.iload_n 3, 1) := by decide +kernel
theorem dX0_liveBlocks_15 : decode cX0_liveBlocks 15 = .ok (.bipush 12, 2) := by decide +kernel
theorem dX0_liveBlocks_17 : decode cX0_liveBlocks 17 = .ok (.if_icmp .ge 29, 3) := by decide +kernel
theorem dX0_liveBlocks_20 : decode cX0_liveBlocks 20 = .ok (.aload_n 0, 1) := by decide +kernel
theorem dX0_liveBlocks_21 : decode cX0_liveBlocks 21 = .ok (.getfield 22, 3) := by decide +kernel
theorem dX0_liveBlocks_24 : decode cX0_liveBlocks 24 = .ok (.iload_n 3, 1) := by decide +kernel
theorem dX0_liveBlocks_25 : decode cX0_liveBlocks 25 = .ok (.iaload, 1) := by decide +kernel
theorem dX0_liveBlocks_26 : decode cX0_liveBlocks 26 = .ok (.iload_n 1, 1) := by decide +kernel
theorem dX0_liveBlocks_27 : decode cX0_liveBlocks 27 = .ok (.ishr, 1) := by decide +kernel
theorem dX0_liveBlocks_28 : decode cX0_liveBlocks 28 = .ok (.iconst 1, 1) := by decide +kernel
theorem dX0_liveBlocks_29 : decode cX0_liveBlocks 29 = .ok (.iand, 1) := by decide +kernel
theorem dX0_liveBlocks_30 : decode cX0_liveBlocks 30 = .ok (.iconst 1, 1) := by decide +kernel
theorem dX0_liveBlocks_31 : decode cX0_liveBlocks 31 = .ok (.if_icmp .ne 9, 3) := by decide +kernel
theorem dX0_liveBlocks_34 : decode cX0_liveBlocks 34 = .ok (.iload_n 2, 1) := by decide +kernel
theorem dX0_liveBlocks_35 : decode cX0_liveBlocks 35 = .ok (.iconst 1, 1) := by decide +kernel
theorem dX0_liveBlocks_36 : decode cX0_liveBlocks 36 = .ok (.iload_n 3, 1) := by decide +kernel
theorem dX0_liveBlocks_37 : decode cX0_liveBlocks 37 = .ok (.ishl, 1) := by decide +kernel
theorem dX0_liveBlocks_38 : decode cX0_liveBlocks 38 = .ok (.ior, 1) := by decide +kernel
theorem dX0_liveBlocks_39 : decode cX0_liveBlocks 39 = .ok (.istore_n 2, 1) := by decide +kernel
theorem dX0_liveBlocks_40 : decode cX0_liveBlocks 40 = .ok (.iinc 3 1, 3) := by decide +kernel
theorem dX0_liveBlocks_43 : decode cX0_liveBlocks 43 = .ok (.goto (-29), 3) := by decide +kernel
theorem dX0_liveBlocks_46 : decode cX0_liveBlocks 46 = .ok (.iload_n 2, 1) := by decide +kernel
theorem dX0_liveBlocks_47 : decode cX0_liveBlocks 47 = .ok (.ireturn, 1) := by decide +kernel
abbrev cX0_idleSets : ByteArray := prog_1_method_23_code
def yX0_idleSets : MethodName := ⟨RX0, "idleSets", "()I"⟩
theorem dX0_idleSets_0 : decode cX0_idleSets 0 = .ok (.iconst 0, 1) := by decide +kernel
theorem dX0_idleSets_1 : decode cX0_idleSets 1 = .ok (.istore_n 1, 1) := by decide +kernel
theorem dX0_idleSets_2 : decode cX0_idleSets 2 = .ok (.iconst 0, 1) := by decide +kernel
theorem dX0_idleSets_3 : decode cX0_idleSets 3 = .ok (.istore_n 2, 1) := by decide +kernel
theorem dX0_idleSets_4 : decode cX0_idleSets 4 = .ok (.iload_n 2, 1) := by decide +kernel
theorem dX0_idleSets_5 : decode cX0_idleSets 5 = .ok (.bipush 12, 2) := by decide +kernel
theorem dX0_idleSets_7 : decode cX0_idleSets 7 = .ok (.if_icmp .ge 36, 3) := by decide +kernel
theorem dX0_idleSets_10 : decode cX0_idleSets 10 = .ok (.aload_n 0, 1) := by decide +kernel
theorem dX0_idleSets_11 : decode cX0_idleSets 11 = .ok (.iload_n 2, 1) := by decide +kernel
theorem dX0_idleSets_12 : decode cX0_idleSets 12 = .ok (.invokevirtual 25, 3) := by decide +kernel
theorem dX0_idleSets_15 : decode cX0_idleSets 15 = .ok (.istore_n 3, 1) := by decide +kernel
theorem dX0_idleSets_16 : decode cX0_idleSets 16 = .ok (.aload_n 0, 1) := by decide +kernel
theorem dX0_idleSets_17 : decode cX0_idleSets 17 = .ok (.aload_n 0, 1) := by decide +kernel
theorem dX0_idleSets_18 : decode cX0_idleSets 18 = .ok (.getfield 19, 3) := by decide +kernel
theorem dX0_idleSets_21 : decode cX0_idleSets 21 = .ok (.iload_n 2, 1) := by decide +kernel
theorem dX0_idleSets_22 : decode cX0_idleSets 22 = .ok (.iaload, 1) := by decide +kernel
theorem dX0_idleSets_23 : decode cX0_idleSets 23 = .ok (.iload_n 3, 1) := by decide +kernel
theorem dX0_idleSets_24 : decode cX0_idleSets 24 = .ok (.iconst (-1), 1) := by decide +kernel
theorem dX0_idleSets_25 : decode cX0_idleSets 25 = .ok (.ixor, 1) := by decide +kernel
theorem dX0_idleSets_26 : decode cX0_idleSets 26 = .ok (.iand, 1) := by decide +kernel
theorem dX0_idleSets_27 : decode cX0_idleSets 27 = .ok (.invokevirtual 61, 3) := by decide +kernel
theorem dX0_idleSets_30 : decode cX0_idleSets 30 = .ok (.istore 4, 2) := by decide +kernel
theorem dX0_idleSets_32 : decode cX0_idleSets 32 = .ok (.iload_n 1, 1) := by decide +kernel
theorem dX0_idleSets_33 : decode cX0_idleSets 33 = .ok (.iload 4, 2) := by decide +kernel
theorem dX0_idleSets_35 : decode cX0_idleSets 35 = .ok (.iadd, 1) := by decide +kernel
theorem dX0_idleSets_36 : decode cX0_idleSets 36 = .ok (.istore_n 1, 1) := by decide +kernel
theorem dX0_idleSets_37 : decode cX0_idleSets 37 = .ok (.iinc 2 1, 3) := by decide +kernel
theorem dX0_idleSets_40 : decode cX0_idleSets 40 = .ok (.goto (-36), 3) := by decide +kernel
theorem dX0_idleSets_43 : decode cX0_idleSets 43 = .ok (.iload_n 1, 1) := by decide +kernel
theorem dX0_idleSets_44 : decode cX0_idleSets 44 = .ok (.ireturn, 1) := by decide +kernel
abbrev cX0_sizeOf : ByteArray := prog_1_method_22_code
def yX0_sizeOf : MethodName := ⟨RX0, "sizeOf", "(I)I"⟩
theorem dX0_sizeOf_0 : decode cX0_sizeOf 0 = .ok (.iconst 0, 1) := by decide +kernel
theorem dX0_sizeOf_1 : decode cX0_sizeOf 1 = .ok (.istore_n 2, 1) := by decide +kernel
theorem dX0_sizeOf_2 : decode cX0_sizeOf 2 = .ok (.iconst 0, 1) := by decide +kernel
theorem dX0_sizeOf_3 : decode cX0_sizeOf 3 = .ok (.istore_n 3, 1) := by decide +kernel
theorem dX0_sizeOf_4 : decode cX0_sizeOf 4 = .ok (.iload_n 3, 1) := by decide +kernel
theorem dX0_sizeOf_5 : decode cX0_sizeOf 5 = .ok (.bipush 20, 2) := by decide +kernel
theorem dX0_sizeOf_7 : decode cX0_sizeOf 7 = .ok (.if_icmp .ge 17, 3) := by decide +kernel
theorem dX0_sizeOf_10 : decode cX0_sizeOf 10 = .ok (.iload_n 2, 1) := by decide +kernel
theorem dX0_sizeOf_11 : decode cX0_sizeOf 11 = .ok (.iload_n 1, 1) := by decide +kernel
theorem dX0_sizeOf_12 : decode cX0_sizeOf 12 = .ok (.iload_n 3, 1) := by decide +kernel
theorem dX0_sizeOf_13 : decode cX0_sizeOf 13 = .ok (.ishr, 1) := by decide +kernel
theorem dX0_sizeOf_14 : decode cX0_sizeOf 14 = .ok (.iconst 1, 1) := by decide +kernel
theorem dX0_sizeOf_15 : decode cX0_sizeOf 15 = .ok (.iand, 1) := by decide +kernel
theorem dX0_sizeOf_16 : decode cX0_sizeOf 16 = .ok (.iadd, 1) := by decide +kernel
theorem dX0_sizeOf_17 : decode cX0_sizeOf 17 = .ok (.istore_n 2, 1) := by decide +kernel
theorem dX0_sizeOf_18 : decode cX0_sizeOf 18 = .ok (.iinc 3 1, 3) := by decide +kernel
theorem dX0_sizeOf_21 : decode cX0_sizeOf 21 = .ok (.goto (-17), 3) := by decide +kernel
theorem dX0_sizeOf_24 : decode cX0_sizeOf 24 = .ok (.iload_n 2, 1) := by decide +kernel
theorem dX0_sizeOf_25 : decode cX0_sizeOf 25 = .ok (.ireturn, 1) := by decide +kernel
abbrev cX0_pressure : ByteArray := prog_1_method_24_code
def yX0_pressure : MethodName := ⟨RX0, "pressure", "()I"⟩
theorem dX0_pressure_0 : decode cX0_pressure 0 = .ok (.iconst 0, 1) := by decide +kernel
theorem dX0_pressure_1 : decode cX0_pressure 1 = .ok (.istore_n 1, 1) := by decide +kernel
theorem dX0_pressure_2 : decode cX0_pressure 2 = .ok (.iconst 0, 1) := by decide +kernel
theorem dX0_pressure_3 : decode cX0_pressure 3 = .ok (.istore_n 2, 1) := by decide +kernel
theorem dX0_pressure_4 : decode cX0_pressure 4 = .ok (.iload_n 2, 1) := by decide +kernel
theorem dX0_pressure_5 : decode cX0_pressure 5 = .ok (.bipush 12, 2) := by decide +kernel
theorem dX0_pressure_7 : decode cX0_pressure 7 = .ok (.if_icmp .ge 31, 3) := by decide +kernel
theorem dX0_pressure_10 : decode cX0_pressure 10 = .ok (.aload_n 0, 1) := by decide +kernel
theorem dX0_pressure_11 : decode cX0_pressure 11 = .ok (.aload_n 0, 1) := by decide +kernel
theorem dX0_pressure_12 : decode cX0_pressure 12 = .ok (.getfield 22, 3) := by decide +kernel
theorem dX0_pressure_15 : decode cX0_pressure 15 = .ok (.iload_n 2, 1) := by decide +kernel
theorem dX0_pressure_16 : decode cX0_pressure 16 = .ok (.iaload, 1) := by decide +kernel
theorem dX0_pressure_17 : decode cX0_pressure 17 = .ok (.invokevirtual 61, 3) := by decide +kernel
theorem dX0_pressure_20 : decode cX0_pressure 20 = .ok (.istore_n 3, 1) := by decide +kernel
theorem dX0_pressure_21 : decode cX0_pressure 21 = .ok (.iload_n 3, 1) := by decide +kernel
theorem dX0_pressure_22 : decode cX0_pressure 22 = .ok (.iload_n 1, 1) := by decide +kernel
theorem dX0_pressure_23 : decode cX0_pressure 23 = .ok (.if_icmp .le 7, 3) := by decide +kernel
theorem dX0_pressure_26 : decode cX0_pressure 26 = .ok (.iload_n 3, 1) := by decide +kernel
theorem dX0_pressure_27 : decode cX0_pressure 27 = .ok (.goto 4, 3) := by decide +kernel
theorem dX0_pressure_30 : decode cX0_pressure 30 = .ok (.iload_n 1, 1) := by decide +kernel
theorem dX0_pressure_31 : decode cX0_pressure 31 = .ok (.istore_n 1, 1) := by decide +kernel
theorem dX0_pressure_32 : decode cX0_pressure 32 = .ok (.iinc 2 1, 3) := by decide +kernel
theorem dX0_pressure_35 : decode cX0_pressure 35 = .ok (.goto (-31), 3) := by decide +kernel
theorem dX0_pressure_38 : decode cX0_pressure 38 = .ok (.iload_n 1, 1) := by decide +kernel
theorem dX0_pressure_39 : decode cX0_pressure 39 = .ok (.ireturn, 1) := by decide +kernel
abbrev cX0_reaching : ByteArray := prog_1_method_25_code
def yX0_reaching : MethodName := ⟨RX0, "reaching", "(II)I"⟩
theorem dX0_reaching_0 : decode cX0_reaching 0 = .ok (.aload_n 0, 1) := by decide +kernel
theorem dX0_reaching_1 : decode cX0_reaching 1 = .ok (.iload_n 1, 1) := by decide +kernel
theorem dX0_reaching_2 : decode cX0_reaching 2 = .ok (.invokevirtual 44, 3) := by decide +kernel
theorem dX0_reaching_5 : decode cX0_reaching 5 = .ok (.ifCond .ne 11, 3) := by decide +kernel
theorem dX0_reaching_8 : decode cX0_reaching 8 = .ok (.aload_n 0, 1) := by decide +kernel
theorem dX0_reaching_9 : decode cX0_reaching 9 = .ok (.iload_n 2, 1) := by decide +kernel
theorem dX0_reaching_10 : decode cX0_reaching 10 = .ok (.invokevirtual 54, 3) := by decide +kernel
theorem dX0_reaching_13 : decode cX0_reaching 13 = .ok (.ifCond .eq 5, 3) := by decide +kernel
theorem dX0_reaching_16 : decode cX0_reaching 16 = .ok (.iconst (-1), 1) := by decide +kernel
theorem dX0_reaching_17 : decode cX0_reaching 17 = .ok (.ireturn, 1) := by decide +kernel
theorem dX0_reaching_18 : decode cX0_reaching 18 = .ok (.iconst 0, 1) := by decide +kernel
theorem dX0_reaching_19 : decode cX0_reaching 19 = .ok (.istore_n 3, 1) := by decide +kernel
theorem dX0_reaching_20 : decode cX0_reaching 20 = .ok (.aload_n 0, 1) := by decide +kernel
theorem dX0_reaching_21 : decode cX0_reaching 21 = .ok (.getfield 13, 3) := by decide +kernel
theorem dX0_reaching_24 : decode cX0_reaching 24 = .ok (.iload_n 1, 1) := by decide +kernel
theorem dX0_reaching_25 : decode cX0_reaching 25 = .ok (.iaload, 1) := by decide +kernel
theorem dX0_reaching_26 : decode cX0_reaching 26 = .ok (.istore 4, 2) := by decide +kernel
theorem dX0_reaching_28 : decode cX0_reaching 28 = .ok (.iconst 0, 1) := by decide +kernel
theorem dX0_reaching_29 : decode cX0_reaching 29 = .ok (.istore 5, 2) := by decide +kernel
theorem dX0_reaching_31 : decode cX0_reaching 31 = .ok (.iload 5, 2) := by decide +kernel
theorem dX0_reaching_33 : decode cX0_reaching 33 = .ok (.bipush 12, 2) := by decide +kernel
theorem dX0_reaching_35 : decode cX0_reaching 35 = .ok (.if_icmp .gt 83, 3) := by decide +kernel
theorem dX0_reaching_38 : decode cX0_reaching 38 = .ok (.iload 4, 2) := by decide +kernel
theorem dX0_reaching_40 : decode cX0_reaching 40 = .ok (.ifCond .eq 78, 3) := by decide +kernel
theorem dX0_reaching_43 : decode cX0_reaching 43 = .ok (.iconst 0, 1) := by decide +kernel
theorem dX0_reaching_44 : decode cX0_reaching 44 = .ok (.istore 6, 2) := by decide +kernel
theorem dX0_reaching_46 : decode cX0_reaching 46 = .ok (.iload_n 3, 1) := by decide +kernel
theorem dX0_reaching_47 : decode cX0_reaching 47 = .ok (.iload 4, 2) := by decide +kernel
theorem dX0_reaching_49 : decode cX0_reaching 49 = .ok (.ior, 1) := by decide +kernel
theorem dX0_reaching_50 : decode cX0_reaching 50 = .ok (.istore_n 3, 1) := by decide +kernel
theorem dX0_reaching_51 : decode cX0_reaching 51 = .ok (.iconst 0, 1) := by decide +kernel
theorem dX0_reaching_52 : decode cX0_reaching 52 = .ok (.istore 7, 2) := by decide +kernel
theorem dX0_reaching_54 : decode cX0_reaching 54 = .ok (.iload 7, 2) := by decide +kernel
theorem dX0_reaching_56 : decode cX0_reaching 56 = .ok (.bipush 12, 2) := by decide +kernel
theorem dX0_reaching_58 : decode cX0_reaching 58 = .ok (.if_icmp .ge 46, 3) := by decide +kernel
theorem dX0_reaching_61 : decode cX0_reaching 61 = .ok (.iload 4, 2) := by decide +kernel
theorem dX0_reaching_63 : decode cX0_reaching 63 = .ok (.iload 7, 2) := by decide +kernel
theorem dX0_reaching_65 : decode cX0_reaching 65 = .ok (.ishr, 1) := by decide +kernel
theorem dX0_reaching_66 : decode cX0_reaching 66 = .ok (.iconst 1, 1) := by decide +kernel
theorem dX0_reaching_67 : decode cX0_reaching 67 = .ok (.iand, 1) := by decide +kernel
theorem dX0_reaching_68 : decode cX0_reaching 68 = .ok (.iconst 1, 1) := by decide +kernel
theorem dX0_reaching_69 : decode cX0_reaching 69 = .ok (.if_icmp .ne 29, 3) := by decide +kernel
theorem dX0_reaching_72 : decode cX0_reaching 72 = .ok (.aload_n 0, 1) := by decide +kernel
theorem dX0_reaching_73 : decode cX0_reaching 73 = .ok (.getfield 19, 3) := by decide +kernel
theorem dX0_reaching_76 : decode cX0_reaching 76 = .ok (.iload 7, 2) := by decide +kernel
theorem dX0_reaching_78 : decode cX0_reaching 78 = .ok (.iaload, 1) := by decide +kernel
theorem dX0_reaching_79 : decode cX0_reaching 79 = .ok (.iload_n 2, 1) := by decide +kernel
theorem dX0_reaching_80 : decode cX0_reaching 80 = .ok (.ishr, 1) := by decide +kernel
theorem dX0_reaching_81 : decode cX0_reaching 81 = .ok (.iconst 1, 1) := by decide +kernel
theorem dX0_reaching_82 : decode cX0_reaching 82 = .ok (.iand, 1) := by decide +kernel
theorem dX0_reaching_83 : decode cX0_reaching 83 = .ok (.ifCond .ne 15, 3) := by decide +kernel
theorem dX0_reaching_86 : decode cX0_reaching 86 = .ok (.iload 6, 2) := by decide +kernel
theorem dX0_reaching_88 : decode cX0_reaching 88 = .ok (.aload_n 0, 1) := by decide +kernel
theorem dX0_reaching_89 : decode cX0_reaching 89 = .ok (.getfield 13, 3) := by decide +kernel
theorem dX0_reaching_92 : decode cX0_reaching 92 = .ok (.iload 7, 2) := by decide +kernel
theorem dX0_reaching_94 : decode cX0_reaching 94 = .ok (.iaload, 1) := by decide +kernel
theorem dX0_reaching_95 : decode cX0_reaching 95 = .ok (.ior, 1) := by decide +kernel
theorem dX0_reaching_96 : decode cX0_reaching 96 = .ok (.istore 6, 2) := by decide +kernel
theorem dX0_reaching_98 : decode cX0_reaching 98 = .ok (.iinc 7 1, 3) := by decide +kernel
theorem dX0_reaching_101 : decode cX0_reaching 101 = .ok (.goto (-47), 3) := by decide +kernel
theorem dX0_reaching_104 : decode cX0_reaching 104 = .ok (.iload 6, 2) := by decide +kernel
theorem dX0_reaching_106 : decode cX0_reaching 106 = .ok (.iload_n 3, 1) := by decide +kernel
theorem dX0_reaching_107 : decode cX0_reaching 107 = .ok (.iconst (-1), 1) := by decide +kernel
theorem dX0_reaching_108 : decode cX0_reaching 108 = .ok (.ixor, 1) := by decide +kernel
theorem dX0_reaching_109 : decode cX0_reaching 109 = .ok (.iand, 1) := by decide +kernel
theorem dX0_reaching_110 : decode cX0_reaching 110 = .ok (.istore 4, 2) := by decide +kernel
theorem dX0_reaching_112 : decode cX0_reaching 112 = .ok (.iinc 5 1, 3) := by decide +kernel
theorem dX0_reaching_115 : decode cX0_reaching 115 = .ok (.goto (-84), 3) := by decide +kernel
theorem dX0_reaching_118 : decode cX0_reaching 118 = .ok (.iconst 0, 1) := by decide +kernel
theorem dX0_reaching_119 : decode cX0_reaching 119 = .ok (.istore 5, 2) := by decide +kernel
theorem dX0_reaching_121 : decode cX0_reaching 121 = .ok (.iconst 0, 1) := by decide +kernel
theorem dX0_reaching_122 : decode cX0_reaching 122 = .ok (.istore 6, 2) := by decide +kernel
theorem dX0_reaching_124 : decode cX0_reaching 124 = .ok (.iload 6, 2) := by decide +kernel
theorem dX0_reaching_126 : decode cX0_reaching 126 = .ok (.bipush 12, 2) := by decide +kernel
theorem dX0_reaching_128 : decode cX0_reaching 128 = .ok (.if_icmp .ge 43, 3) := by decide +kernel
theorem dX0_reaching_131 : decode cX0_reaching 131 = .ok (.iload_n 3, 1) := by decide +kernel
theorem dX0_reaching_132 : decode cX0_reaching 132 = .ok (.iload 6, 2) := by decide +kernel
theorem dX0_reaching_134 : decode cX0_reaching 134 = .ok (.ishr, 1) := by decide +kernel
theorem dX0_reaching_135 : decode cX0_reaching 135 = .ok (.iconst 1, 1) := by decide +kernel
theorem dX0_reaching_136 : decode cX0_reaching 136 = .ok (.iand, 1) := by decide +kernel
theorem dX0_reaching_137 : decode cX0_reaching 137 = .ok (.iconst 1, 1) := by decide +kernel
theorem dX0_reaching_138 : decode cX0_reaching 138 = .ok (.if_icmp .ne 27, 3) := by decide +kernel
theorem dX0_reaching_141 : decode cX0_reaching 141 = .ok (.aload_n 0, 1) := by decide +kernel
theorem dX0_reaching_142 : decode cX0_reaching 142 = .ok (.getfield 19, 3) := by decide +kernel
theorem dX0_reaching_145 : decode cX0_reaching 145 = .ok (.iload 6, 2) := by decide +kernel
theorem dX0_reaching_147 : decode cX0_reaching 147 = .ok (.iaload, 1) := by decide +kernel
theorem dX0_reaching_148 : decode cX0_reaching 148 = .ok (.iload_n 2, 1) := by decide +kernel
theorem dX0_reaching_149 : decode cX0_reaching 149 = .ok (.ishr, 1) := by decide +kernel
theorem dX0_reaching_150 : decode cX0_reaching 150 = .ok (.iconst 1, 1) := by decide +kernel
theorem dX0_reaching_151 : decode cX0_reaching 151 = .ok (.iand, 1) := by decide +kernel
theorem dX0_reaching_152 : decode cX0_reaching 152 = .ok (.iconst 1, 1) := by decide +kernel
theorem dX0_reaching_153 : decode cX0_reaching 153 = .ok (.if_icmp .ne 12, 3) := by decide +kernel
theorem dX0_reaching_156 : decode cX0_reaching 156 = .ok (.iload 5, 2) := by decide +kernel
theorem dX0_reaching_158 : decode cX0_reaching 158 = .ok (.iconst 1, 1) := by decide +kernel
theorem dX0_reaching_159 : decode cX0_reaching 159 = .ok (.iload 6, 2) := by decide +kernel
theorem dX0_reaching_161 : decode cX0_reaching 161 = .ok (.ishl, 1) := by decide +kernel
theorem dX0_reaching_162 : decode cX0_reaching 162 = .ok (.ior, 1) := by decide +kernel
theorem dX0_reaching_163 : decode cX0_reaching 163 = .ok (.istore 5, 2) := by decide +kernel
theorem dX0_reaching_165 : decode cX0_reaching 165 = .ok (.iinc 6 1, 3) := by decide +kernel
theorem dX0_reaching_168 : decode cX0_reaching 168 = .ok (.goto (-44), 3) := by decide +kernel
theorem dX0_reaching_171 : decode cX0_reaching 171 = .ok (.iload 5, 2) := by decide +kernel
theorem dX0_reaching_173 : decode cX0_reaching 173 = .ok (.ireturn, 1) := by decide +kernel
abbrev cX0_crowded : ByteArray := prog_1_method_26_code
def yX0_crowded : MethodName := ⟨RX0, "crowded", "()I"⟩
theorem dX0_crowded_0 : decode cX0_crowded 0 = .ok (.iconst 0, 1) := by decide +kernel
theorem dX0_crowded_1 : decode cX0_crowded 1 = .ok (.istore_n 1, 1) := by decide +kernel
theorem dX0_crowded_2 : decode cX0_crowded 2 = .ok (.iconst 0, 1) := by decide +kernel
theorem dX0_crowded_3 : decode cX0_crowded 3 = .ok (.istore_n 2, 1) := by decide +kernel
theorem dX0_crowded_4 : decode cX0_crowded 4 = .ok (.iload_n 2, 1) := by decide +kernel
theorem dX0_crowded_5 : decode cX0_crowded 5 = .ok (.bipush 20, 2) := by decide +kernel
theorem dX0_crowded_7 : decode cX0_crowded 7 = .ok (.if_icmp .ge 68, 3) := by decide +kernel
theorem dX0_crowded_10 : decode cX0_crowded 10 = .ok (.iconst 0, 1) := by decide +kernel
theorem dX0_crowded_11 : decode cX0_crowded 11 = .ok (.istore_n 3, 1) := by decide +kernel
theorem dX0_crowded_12 : decode cX0_crowded 12 = .ok (.iconst 0, 1) := by decide +kernel
theorem dX0_crowded_13 : decode cX0_crowded 13 = .ok (.istore 4, 2) := by decide +kernel
theorem dX0_crowded_15 : decode cX0_crowded 15 = .ok (.iload 4, 2) := by decide +kernel
theorem dX0_crowded_17 : decode cX0_crowded 17 = .ok (.bipush 12, 2) := by decide +kernel
theorem dX0_crowded_19 : decode cX0_crowded 19 = .ok (.if_icmp .ge 34, 3) := by decide +kernel
theorem dX0_crowded_22 : decode cX0_crowded 22 = .ok (.aload_n 0, 1) := by decide +kernel
theorem dX0_crowded_23 : decode cX0_crowded 23 = .ok (.getfield 22, 3) := by decide +kernel
theorem dX0_crowded_26 : decode cX0_crowded 26 = .ok (.iload 4, 2) := by decide +kernel
theorem dX0_crowded_28 : decode cX0_crowded 28 = .ok (.iaload, 1) := by decide +kernel
theorem dX0_crowded_29 : decode cX0_crowded 29 = .ok (.iload_n 2, 1) := by decide +kernel
theorem dX0_crowded_30 : decode cX0_crowded 30 = .ok (.ishr, 1) := by decide +kernel
theorem dX0_crowded_31 : decode cX0_crowded 31 = .ok (.iconst 1, 1) := by decide +kernel
theorem dX0_crowded_32 : decode cX0_crowded 32 = .ok (.iand, 1) := by decide +kernel
theorem dX0_crowded_33 : decode cX0_crowded 33 = .ok (.iconst 1, 1) := by decide +kernel
theorem dX0_crowded_34 : decode cX0_crowded 34 = .ok (.if_icmp .ne 13, 3) := by decide +kernel
theorem dX0_crowded_37 : decode cX0_crowded 37 = .ok (.iload_n 3, 1) := by decide +kernel
theorem dX0_crowded_38 : decode cX0_crowded 38 = .ok (.aload_n 0, 1) := by decide +kernel
theorem dX0_crowded_39 : decode cX0_crowded 39 = .ok (.getfield 22, 3) := by decide +kernel
theorem dX0_crowded_42 : decode cX0_crowded 42 = .ok (.iload 4, 2) := by decide +kernel
theorem dX0_crowded_44 : decode cX0_crowded 44 = .ok (.iaload, 1) := by decide +kernel
theorem dX0_crowded_45 : decode cX0_crowded 45 = .ok (.ior, 1) := by decide +kernel
theorem dX0_crowded_46 : decode cX0_crowded 46 = .ok (.istore_n 3, 1) := by decide +kernel
theorem dX0_crowded_47 : decode cX0_crowded 47 = .ok (.iinc 4 1, 3) := by decide +kernel
theorem dX0_crowded_50 : decode cX0_crowded 50 = .ok (.goto (-35), 3) := by decide +kernel
theorem dX0_crowded_53 : decode cX0_crowded 53 = .ok (.aload_n 0, 1) := by decide +kernel
theorem dX0_crowded_54 : decode cX0_crowded 54 = .ok (.iload_n 3, 1) := by decide +kernel
theorem dX0_crowded_55 : decode cX0_crowded 55 = .ok (.iload_n 2, 1) := by decide +kernel
theorem dX0_crowded_56 : decode cX0_crowded 56 = .ok (.iconst 1, 1) := by decide +kernel
theorem dX0_crowded_57 : decode cX0_crowded 57 = .ok (.iadd, 1) := by decide +kernel
theorem dX0_crowded_58 : decode cX0_crowded 58 = .ok (.ishr, 1) := by decide +kernel
theorem dX0_crowded_59 : decode cX0_crowded 59 = .ok (.invokevirtual 61, 3) := by decide +kernel
theorem dX0_crowded_62 : decode cX0_crowded 62 = .ok (.istore 4, 2) := by decide +kernel
theorem dX0_crowded_64 : decode cX0_crowded 64 = .ok (.iload_n 1, 1) := by decide +kernel
theorem dX0_crowded_65 : decode cX0_crowded 65 = .ok (.iload 4, 2) := by decide +kernel
theorem dX0_crowded_67 : decode cX0_crowded 67 = .ok (.iadd, 1) := by decide +kernel
theorem dX0_crowded_68 : decode cX0_crowded 68 = .ok (.istore_n 1, 1) := by decide +kernel
theorem dX0_crowded_69 : decode cX0_crowded 69 = .ok (.iinc 2 1, 3) := by decide +kernel
theorem dX0_crowded_72 : decode cX0_crowded 72 = .ok (.goto (-68), 3) := by decide +kernel
theorem dX0_crowded_75 : decode cX0_crowded 75 = .ok (.iload_n 1, 1) := by decide +kernel
theorem dX0_crowded_76 : decode cX0_crowded 76 = .ok (.ireturn, 1) := by decide +kernel
theorem q20 : (Jvm.Cond.initialized "IncrLiveness") ∈ lw_all := lw_g (lw_at lw_m0 1 rfl) rfl
theorem q23 : (Jvm.Cond.instantiable "IncrLiveness" (5 : Nat)) ∈ lw_all := lw_g (lw_at lw_m0 4 rfl) rfl
theorem q25 : (Jvm.Cond.instanceMethod ({ cls := "IncrLiveness", name := "<init>", desc := "()V" } : Jvm.MethodName)) ∈ lw_all := lw_g (lw_at lw_m0 6 rfl) rfl
theorem q26 : (Jvm.Cond.code ({ cls := "IncrLiveness", name := "<init>", desc := "()V" } : Jvm.MethodName) prog_1_method_1_code (1 : Nat) (Option.none : Option Jvm.ClassFile.FieldType)) ∈ lw_all := lw_g (lw_at lw_m0 7 rfl) rfl
theorem q27 : (Jvm.Cond.methodLink "IncrLiveness" (1 : Nat) ({ cls := "java/lang/Object", name := "<init>", desc := "()V" } : Jvm.MethodName)) ∈ lw_all := lw_g (lw_at lw_m0 8 rfl) rfl
theorem q30 : (Jvm.Cond.fieldLink "IncrLiveness" (7 : Nat) "IncrLiveness" "to" "[I") ∈ lw_all := lw_g (lw_at lw_m0 11 rfl) rfl
theorem q31 : (Jvm.Cond.fieldLink "IncrLiveness" (13 : Nat) "IncrLiveness" "from" "[I") ∈ lw_all := lw_g (lw_at lw_m0 12 rfl) rfl
theorem q32 : (Jvm.Cond.fieldLink "IncrLiveness" (16 : Nat) "IncrLiveness" "uses" "[I") ∈ lw_all := lw_g (lw_at lw_m0 13 rfl) rfl
theorem q33 : (Jvm.Cond.fieldLink "IncrLiveness" (19 : Nat) "IncrLiveness" "sets" "[I") ∈ lw_all := lw_g (lw_at lw_m0 14 rfl) rfl
theorem q34 : (Jvm.Cond.fieldLink "IncrLiveness" (22 : Nat) "IncrLiveness" "live" "[I") ∈ lw_all := lw_g (lw_at lw_m0 15 rfl) rfl
theorem q35 : (Jvm.Cond.laysFinal "IncrLiveness" "IncrLiveness" "to" "[I") ∈ lw_all := lw_g (lw_at lw_m0 16 rfl) rfl
theorem q36 : (Jvm.Cond.soleField "IncrLiveness" "to") ∈ lw_all := lw_g (lw_at lw_m0 17 rfl) rfl
theorem q37 : (Jvm.Cond.laysFinal "IncrLiveness" "IncrLiveness" "from" "[I") ∈ lw_all := lw_g (lw_at lw_m0 18 rfl) rfl
theorem q38 : (Jvm.Cond.soleField "IncrLiveness" "from") ∈ lw_all := lw_g (lw_at lw_m0 19 rfl) rfl
theorem q39 : (Jvm.Cond.laysFinal "IncrLiveness" "IncrLiveness" "uses" "[I") ∈ lw_all := lw_g (lw_at lw_m0 20 rfl) rfl
theorem q40 : (Jvm.Cond.soleField "IncrLiveness" "uses") ∈ lw_all := lw_g (lw_at lw_m0 21 rfl) rfl
theorem q41 : (Jvm.Cond.laysFinal "IncrLiveness" "IncrLiveness" "sets" "[I") ∈ lw_all := lw_g (lw_at lw_m0 22 rfl) rfl
theorem q42 : (Jvm.Cond.soleField "IncrLiveness" "sets") ∈ lw_all := lw_g (lw_at lw_m0 23 rfl) rfl
theorem q43 : (Jvm.Cond.laysFinal "IncrLiveness" "IncrLiveness" "live" "[I") ∈ lw_all := lw_g (lw_at lw_m0 24 rfl) rfl
theorem q44 : (Jvm.Cond.soleField "IncrLiveness" "live") ∈ lw_all := lw_g (lw_at lw_m0 25 rfl) rfl
theorem q45 : (Jvm.Cond.superclass "IncrLiveness" "java/lang/Object") ∈ lw_all := lw_g (lw_at lw_m0 26 rfl) rfl
theorem q48 : (Jvm.Cond.instanceMethod ({ cls := "IncrLiveness", name := "arc", desc := "(III)I" } : Jvm.MethodName)) ∈ lw_all := lw_g (lw_at lw_m0 29 rfl) rfl
theorem q49 : (Jvm.Cond.selects "IncrLiveness" ({ cls := "IncrLiveness", name := "arc", desc := "(III)I" } : Jvm.MethodName) ({ cls := "IncrLiveness", name := "arc", desc := "(III)I" } : Jvm.MethodName)) ∈ lw_all := lw_g (lw_at lw_m0 30 rfl) rfl
theorem q50 : (Jvm.Cond.code ({ cls := "IncrLiveness", name := "arc", desc := "(III)I" } : Jvm.MethodName) prog_1_method_11_code (5 : Nat) (Option.some Jvm.ClassFile.FieldType.int)) ∈ lw_all := lw_g (lw_at lw_m0 31 rfl) rfl
theorem q51 : (Jvm.Cond.methodLink "IncrLiveness" (44 : Nat) ({ cls := "IncrLiveness", name := "bad", desc := "(I)Z" } : Jvm.MethodName)) ∈ lw_all := lw_g (lw_at lw_m0 32 rfl) rfl
theorem q52 : (Jvm.Cond.privateMethod ({ cls := "IncrLiveness", name := "bad", desc := "(I)Z" } : Jvm.MethodName)) ∈ lw_tbl := lw_at lw_m0 33 rfl
theorem q53 : (Jvm.Cond.instanceMethod ({ cls := "IncrLiveness", name := "bad", desc := "(I)Z" } : Jvm.MethodName)) ∈ lw_all := lw_g (lw_at lw_m0 34 rfl) rfl
theorem q54 : (Jvm.Cond.code ({ cls := "IncrLiveness", name := "bad", desc := "(I)Z" } : Jvm.MethodName) prog_1_method_2_code (2 : Nat) (Option.some Jvm.ClassFile.FieldType.boolean)) ∈ lw_all := lw_g (lw_at lw_m0 35 rfl) rfl
theorem q55 : (Jvm.Cond.methodLink "IncrLiveness" (48 : Nat) ({ cls := "IncrLiveness", name := "join", desc := "(II)V" } : Jvm.MethodName)) ∈ lw_all := lw_g (lw_at lw_m0 36 rfl) rfl
theorem q56 : (Jvm.Cond.privateMethod ({ cls := "IncrLiveness", name := "join", desc := "(II)V" } : Jvm.MethodName)) ∈ lw_tbl := lw_at lw_m0 37 rfl
theorem q57 : (Jvm.Cond.instanceMethod ({ cls := "IncrLiveness", name := "join", desc := "(II)V" } : Jvm.MethodName)) ∈ lw_all := lw_g (lw_at lw_m0 38 rfl) rfl
theorem q58 : (Jvm.Cond.code ({ cls := "IncrLiveness", name := "join", desc := "(II)V" } : Jvm.MethodName) prog_1_method_9_code (3 : Nat) (Option.none : Option Jvm.ClassFile.FieldType)) ∈ lw_all := lw_g (lw_at lw_m0 39 rfl) rfl
theorem q59 : (Jvm.Cond.methodLink "IncrLiveness" (35 : Nat) ({ cls := "IncrLiveness", name := "spread", desc := "(I)V" } : Jvm.MethodName)) ∈ lw_all := lw_g (lw_at lw_m0 40 rfl) rfl
theorem q60 : (Jvm.Cond.privateMethod ({ cls := "IncrLiveness", name := "spread", desc := "(I)V" } : Jvm.MethodName)) ∈ lw_tbl := lw_at lw_m0 41 rfl
theorem q61 : (Jvm.Cond.instanceMethod ({ cls := "IncrLiveness", name := "spread", desc := "(I)V" } : Jvm.MethodName)) ∈ lw_all := lw_g (lw_at lw_m0 42 rfl) rfl
theorem q62 : (Jvm.Cond.code ({ cls := "IncrLiveness", name := "spread", desc := "(I)V" } : Jvm.MethodName) prog_1_method_6_code (7 : Nat) (Option.none : Option Jvm.ClassFile.FieldType)) ∈ lw_all := lw_g (lw_at lw_m0 43 rfl) rfl
theorem q63 : (Jvm.Cond.methodLink "IncrLiveness" (29 : Nat) ({ cls := "IncrLiveness", name := "due", desc := "(I)I" } : Jvm.MethodName)) ∈ lw_all := lw_g (lw_at lw_m0 44 rfl) rfl
theorem q64 : (Jvm.Cond.privateMethod ({ cls := "IncrLiveness", name := "due", desc := "(I)I" } : Jvm.MethodName)) ∈ lw_tbl := lw_at lw_m0 45 rfl
theorem q65 : (Jvm.Cond.instanceMethod ({ cls := "IncrLiveness", name := "due", desc := "(I)I" } : Jvm.MethodName)) ∈ lw_all := lw_g (lw_at lw_m0 46 rfl) rfl
theorem q66 : (Jvm.Cond.code ({ cls := "IncrLiveness", name := "due", desc := "(I)I" } : Jvm.MethodName) prog_1_method_5_code (2 : Nat) (Option.some Jvm.ClassFile.FieldType.int)) ∈ lw_all := lw_g (lw_at lw_m0 47 rfl) rfl
theorem q67 : (Jvm.Cond.methodLink "IncrLiveness" (25 : Nat) ({ cls := "IncrLiveness", name := "atEnd", desc := "(I)I" } : Jvm.MethodName)) ∈ lw_all := lw_g (lw_at lw_m0 48 rfl) rfl
theorem q68 : (Jvm.Cond.privateMethod ({ cls := "IncrLiveness", name := "atEnd", desc := "(I)I" } : Jvm.MethodName)) ∈ lw_tbl := lw_at lw_m0 49 rfl
theorem q69 : (Jvm.Cond.instanceMethod ({ cls := "IncrLiveness", name := "atEnd", desc := "(I)I" } : Jvm.MethodName)) ∈ lw_all := lw_g (lw_at lw_m0 50 rfl) rfl
theorem q70 : (Jvm.Cond.code ({ cls := "IncrLiveness", name := "atEnd", desc := "(I)I" } : Jvm.MethodName) prog_1_method_4_code (4 : Nat) (Option.some Jvm.ClassFile.FieldType.int)) ∈ lw_all := lw_g (lw_at lw_m0 51 rfl) rfl
theorem q71 : (Jvm.Cond.methodLink "IncrLiveness" (51 : Nat) ({ cls := "IncrLiveness", name := "part", desc := "(II)V" } : Jvm.MethodName)) ∈ lw_all := lw_g (lw_at lw_m0 52 rfl) rfl
theorem q72 : (Jvm.Cond.privateMethod ({ cls := "IncrLiveness", name := "part", desc := "(II)V" } : Jvm.MethodName)) ∈ lw_tbl := lw_at lw_m0 53 rfl
theorem q73 : (Jvm.Cond.instanceMethod ({ cls := "IncrLiveness", name := "part", desc := "(II)V" } : Jvm.MethodName)) ∈ lw_all := lw_g (lw_at lw_m0 54 rfl) rfl
theorem q74 : (Jvm.Cond.code ({ cls := "IncrLiveness", name := "part", desc := "(II)V" } : Jvm.MethodName) prog_1_method_10_code (3 : Nat) (Option.none : Option Jvm.ClassFile.FieldType)) ∈ lw_all := lw_g (lw_at lw_m0 55 rfl) rfl
theorem q75 : (Jvm.Cond.constant "IncrLiveness" (39 : Nat) (1048575 : Int32)) ∈ lw_all := lw_g (lw_at lw_m0 56 rfl) rfl
theorem q76 : (Jvm.Cond.methodLink "IncrLiveness" (40 : Nat) ({ cls := "IncrLiveness", name := "shrink", desc := "(II)V" } : Jvm.MethodName)) ∈ lw_all := lw_g (lw_at lw_m0 57 rfl) rfl
theorem q77 : (Jvm.Cond.privateMethod ({ cls := "IncrLiveness", name := "shrink", desc := "(II)V" } : Jvm.MethodName)) ∈ lw_tbl := lw_at lw_m0 58 rfl
theorem q78 : (Jvm.Cond.instanceMethod ({ cls := "IncrLiveness", name := "shrink", desc := "(II)V" } : Jvm.MethodName)) ∈ lw_all := lw_g (lw_at lw_m0 59 rfl) rfl
theorem q79 : (Jvm.Cond.code ({ cls := "IncrLiveness", name := "shrink", desc := "(II)V" } : Jvm.MethodName) prog_1_method_8_code (9 : Nat) (Option.none : Option Jvm.ClassFile.FieldType)) ∈ lw_all := lw_g (lw_at lw_m0 60 rfl) rfl
theorem q80 : (Jvm.Cond.methodLink "IncrLiveness" (32 : Nat) ({ cls := "IncrLiveness", name := "behind", desc := "(I)I" } : Jvm.MethodName)) ∈ lw_all := lw_g (lw_at lw_m0 61 rfl) rfl
theorem q81 : (Jvm.Cond.privateMethod ({ cls := "IncrLiveness", name := "behind", desc := "(I)I" } : Jvm.MethodName)) ∈ lw_tbl := lw_at lw_m0 62 rfl
theorem q82 : (Jvm.Cond.instanceMethod ({ cls := "IncrLiveness", name := "behind", desc := "(I)I" } : Jvm.MethodName)) ∈ lw_all := lw_g (lw_at lw_m0 63 rfl) rfl
theorem q83 : (Jvm.Cond.code ({ cls := "IncrLiveness", name := "behind", desc := "(I)I" } : Jvm.MethodName) prog_1_method_7_code (5 : Nat) (Option.some Jvm.ClassFile.FieldType.int)) ∈ lw_all := lw_g (lw_at lw_m0 64 rfl) rfl
theorem q85 : (Jvm.Cond.instanceMethod ({ cls := "IncrLiveness", name := "hasArc", desc := "(II)Z" } : Jvm.MethodName)) ∈ lw_all := lw_g (lw_at lw_m0 66 rfl) rfl
theorem q86 : (Jvm.Cond.selects "IncrLiveness" ({ cls := "IncrLiveness", name := "hasArc", desc := "(II)Z" } : Jvm.MethodName) ({ cls := "IncrLiveness", name := "hasArc", desc := "(II)Z" } : Jvm.MethodName)) ∈ lw_all := lw_g (lw_at lw_m0 67 rfl) rfl
theorem q87 : (Jvm.Cond.code ({ cls := "IncrLiveness", name := "hasArc", desc := "(II)Z" } : Jvm.MethodName) prog_1_method_12_code (3 : Nat) (Option.some Jvm.ClassFile.FieldType.boolean)) ∈ lw_all := lw_g (lw_at lw_m0 68 rfl) rfl
theorem q89 : (Jvm.Cond.instanceMethod ({ cls := "IncrLiveness", name := "use", desc := "(III)I" } : Jvm.MethodName)) ∈ lw_all := lw_g (lw_at lw_m0 70 rfl) rfl
theorem q90 : (Jvm.Cond.selects "IncrLiveness" ({ cls := "IncrLiveness", name := "use", desc := "(III)I" } : Jvm.MethodName) ({ cls := "IncrLiveness", name := "use", desc := "(III)I" } : Jvm.MethodName)) ∈ lw_all := lw_g (lw_at lw_m0 71 rfl) rfl
theorem q91 : (Jvm.Cond.code ({ cls := "IncrLiveness", name := "use", desc := "(III)I" } : Jvm.MethodName) prog_1_method_14_code (6 : Nat) (Option.some Jvm.ClassFile.FieldType.int)) ∈ lw_all := lw_g (lw_at lw_m0 72 rfl) rfl
theorem q92 : (Jvm.Cond.methodLink "IncrLiveness" (54 : Nat) ({ cls := "IncrLiveness", name := "badVariable", desc := "(I)Z" } : Jvm.MethodName)) ∈ lw_all := lw_g (lw_at lw_m0 73 rfl) rfl
theorem q93 : (Jvm.Cond.privateMethod ({ cls := "IncrLiveness", name := "badVariable", desc := "(I)Z" } : Jvm.MethodName)) ∈ lw_tbl := lw_at lw_m0 74 rfl
theorem q94 : (Jvm.Cond.instanceMethod ({ cls := "IncrLiveness", name := "badVariable", desc := "(I)Z" } : Jvm.MethodName)) ∈ lw_all := lw_g (lw_at lw_m0 75 rfl) rfl
theorem q95 : (Jvm.Cond.code ({ cls := "IncrLiveness", name := "badVariable", desc := "(I)Z" } : Jvm.MethodName) prog_1_method_3_code (2 : Nat) (Option.some Jvm.ClassFile.FieldType.boolean)) ∈ lw_all := lw_g (lw_at lw_m0 76 rfl) rfl
theorem q96 : (Jvm.Cond.methodLink "IncrLiveness" (57 : Nat) ({ cls := "IncrLiveness", name := "change", desc := "(III)V" } : Jvm.MethodName)) ∈ lw_all := lw_g (lw_at lw_m0 77 rfl) rfl
theorem q97 : (Jvm.Cond.privateMethod ({ cls := "IncrLiveness", name := "change", desc := "(III)V" } : Jvm.MethodName)) ∈ lw_tbl := lw_at lw_m0 78 rfl
theorem q98 : (Jvm.Cond.instanceMethod ({ cls := "IncrLiveness", name := "change", desc := "(III)V" } : Jvm.MethodName)) ∈ lw_all := lw_g (lw_at lw_m0 79 rfl) rfl
theorem q99 : (Jvm.Cond.code ({ cls := "IncrLiveness", name := "change", desc := "(III)V" } : Jvm.MethodName) prog_1_method_13_code (5 : Nat) (Option.none : Option Jvm.ClassFile.FieldType)) ∈ lw_all := lw_g (lw_at lw_m0 80 rfl) rfl
theorem q101 : (Jvm.Cond.instanceMethod ({ cls := "IncrLiveness", name := "set", desc := "(III)I" } : Jvm.MethodName)) ∈ lw_all := lw_g (lw_at lw_m0 82 rfl) rfl
theorem q102 : (Jvm.Cond.selects "IncrLiveness" ({ cls := "IncrLiveness", name := "set", desc := "(III)I" } : Jvm.MethodName) ({ cls := "IncrLiveness", name := "set", desc := "(III)I" } : Jvm.MethodName)) ∈ lw_all := lw_g (lw_at lw_m0 83 rfl) rfl
theorem q103 : (Jvm.Cond.code ({ cls := "IncrLiveness", name := "set", desc := "(III)I" } : Jvm.MethodName) prog_1_method_15_code (6 : Nat) (Option.some Jvm.ClassFile.FieldType.int)) ∈ lw_all := lw_g (lw_at lw_m0 84 rfl) rfl
theorem q105 : (Jvm.Cond.instanceMethod ({ cls := "IncrLiveness", name := "block", desc := "(III)I" } : Jvm.MethodName)) ∈ lw_all := lw_g (lw_at lw_m0 86 rfl) rfl
theorem q106 : (Jvm.Cond.selects "IncrLiveness" ({ cls := "IncrLiveness", name := "block", desc := "(III)I" } : Jvm.MethodName) ({ cls := "IncrLiveness", name := "block", desc := "(III)I" } : Jvm.MethodName)) ∈ lw_all := lw_g (lw_at lw_m0 87 rfl) rfl
theorem q107 : (Jvm.Cond.code ({ cls := "IncrLiveness", name := "block", desc := "(III)I" } : Jvm.MethodName) prog_1_method_16_code (4 : Nat) (Option.some Jvm.ClassFile.FieldType.int)) ∈ lw_all := lw_g (lw_at lw_m0 88 rfl) rfl
theorem q109 : (Jvm.Cond.instanceMethod ({ cls := "IncrLiveness", name := "cutOff", desc := "(I)I" } : Jvm.MethodName)) ∈ lw_all := lw_g (lw_at lw_m0 90 rfl) rfl
theorem q110 : (Jvm.Cond.selects "IncrLiveness" ({ cls := "IncrLiveness", name := "cutOff", desc := "(I)I" } : Jvm.MethodName) ({ cls := "IncrLiveness", name := "cutOff", desc := "(I)I" } : Jvm.MethodName)) ∈ lw_all := lw_g (lw_at lw_m0 91 rfl) rfl
theorem q111 : (Jvm.Cond.code ({ cls := "IncrLiveness", name := "cutOff", desc := "(I)I" } : Jvm.MethodName) prog_1_method_17_code (4 : Nat) (Option.some Jvm.ClassFile.FieldType.int)) ∈ lw_all := lw_g (lw_at lw_m0 92 rfl) rfl
theorem q113 : (Jvm.Cond.instanceMethod ({ cls := "IncrLiveness", name := "takeOver", desc := "(II)I" } : Jvm.MethodName)) ∈ lw_all := lw_g (lw_at lw_m0 94 rfl) rfl
theorem q114 : (Jvm.Cond.selects "IncrLiveness" ({ cls := "IncrLiveness", name := "takeOver", desc := "(II)I" } : Jvm.MethodName) ({ cls := "IncrLiveness", name := "takeOver", desc := "(II)I" } : Jvm.MethodName)) ∈ lw_all := lw_g (lw_at lw_m0 95 rfl) rfl
theorem q115 : (Jvm.Cond.code ({ cls := "IncrLiveness", name := "takeOver", desc := "(II)I" } : Jvm.MethodName) prog_1_method_18_code (5 : Nat) (Option.some Jvm.ClassFile.FieldType.int)) ∈ lw_all := lw_g (lw_at lw_m0 96 rfl) rfl
theorem q117 : (Jvm.Cond.instanceMethod ({ cls := "IncrLiveness", name := "liveIn", desc := "(I)I" } : Jvm.MethodName)) ∈ lw_all := lw_g (lw_at lw_m0 98 rfl) rfl
theorem q118 : (Jvm.Cond.selects "IncrLiveness" ({ cls := "IncrLiveness", name := "liveIn", desc := "(I)I" } : Jvm.MethodName) ({ cls := "IncrLiveness", name := "liveIn", desc := "(I)I" } : Jvm.MethodName)) ∈ lw_all := lw_g (lw_at lw_m0 99 rfl) rfl
theorem q119 : (Jvm.Cond.code ({ cls := "IncrLiveness", name := "liveIn", desc := "(I)I" } : Jvm.MethodName) prog_1_method_19_code (2 : Nat) (Option.some Jvm.ClassFile.FieldType.int)) ∈ lw_all := lw_g (lw_at lw_m0 100 rfl) rfl
theorem q121 : (Jvm.Cond.instanceMethod ({ cls := "IncrLiveness", name := "liveOut", desc := "(I)I" } : Jvm.MethodName)) ∈ lw_all := lw_g (lw_at lw_m0 102 rfl) rfl
theorem q122 : (Jvm.Cond.selects "IncrLiveness" ({ cls := "IncrLiveness", name := "liveOut", desc := "(I)I" } : Jvm.MethodName) ({ cls := "IncrLiveness", name := "liveOut", desc := "(I)I" } : Jvm.MethodName)) ∈ lw_all := lw_g (lw_at lw_m0 103 rfl) rfl
theorem q123 : (Jvm.Cond.code ({ cls := "IncrLiveness", name := "liveOut", desc := "(I)I" } : Jvm.MethodName) prog_1_method_20_code (2 : Nat) (Option.some Jvm.ClassFile.FieldType.int)) ∈ lw_all := lw_g (lw_at lw_m0 104 rfl) rfl
theorem q125 : (Jvm.Cond.instanceMethod ({ cls := "IncrLiveness", name := "liveBlocks", desc := "(I)I" } : Jvm.MethodName)) ∈ lw_all := lw_g (lw_at lw_m0 106 rfl) rfl
theorem q126 : (Jvm.Cond.selects "IncrLiveness" ({ cls := "IncrLiveness", name := "liveBlocks", desc := "(I)I" } : Jvm.MethodName) ({ cls := "IncrLiveness", name := "liveBlocks", desc := "(I)I" } : Jvm.MethodName)) ∈ lw_all := lw_g (lw_at lw_m0 107 rfl) rfl
theorem q127 : (Jvm.Cond.code ({ cls := "IncrLiveness", name := "liveBlocks", desc := "(I)I" } : Jvm.MethodName) prog_1_method_21_code (4 : Nat) (Option.some Jvm.ClassFile.FieldType.int)) ∈ lw_all := lw_g (lw_at lw_m0 108 rfl) rfl
theorem q129 : (Jvm.Cond.instanceMethod ({ cls := "IncrLiveness", name := "idleSets", desc := "()I" } : Jvm.MethodName)) ∈ lw_all := lw_g (lw_at lw_m0 110 rfl) rfl
theorem q130 : (Jvm.Cond.selects "IncrLiveness" ({ cls := "IncrLiveness", name := "idleSets", desc := "()I" } : Jvm.MethodName) ({ cls := "IncrLiveness", name := "idleSets", desc := "()I" } : Jvm.MethodName)) ∈ lw_all := lw_g (lw_at lw_m0 111 rfl) rfl
theorem q131 : (Jvm.Cond.code ({ cls := "IncrLiveness", name := "idleSets", desc := "()I" } : Jvm.MethodName) prog_1_method_23_code (5 : Nat) (Option.some Jvm.ClassFile.FieldType.int)) ∈ lw_all := lw_g (lw_at lw_m0 112 rfl) rfl
theorem q132 : (Jvm.Cond.methodLink "IncrLiveness" (61 : Nat) ({ cls := "IncrLiveness", name := "sizeOf", desc := "(I)I" } : Jvm.MethodName)) ∈ lw_all := lw_g (lw_at lw_m0 113 rfl) rfl
theorem q133 : (Jvm.Cond.privateMethod ({ cls := "IncrLiveness", name := "sizeOf", desc := "(I)I" } : Jvm.MethodName)) ∈ lw_tbl := lw_at lw_m0 114 rfl
theorem q134 : (Jvm.Cond.instanceMethod ({ cls := "IncrLiveness", name := "sizeOf", desc := "(I)I" } : Jvm.MethodName)) ∈ lw_all := lw_g (lw_at lw_m0 115 rfl) rfl
theorem q135 : (Jvm.Cond.code ({ cls := "IncrLiveness", name := "sizeOf", desc := "(I)I" } : Jvm.MethodName) prog_1_method_22_code (4 : Nat) (Option.some Jvm.ClassFile.FieldType.int)) ∈ lw_all := lw_g (lw_at lw_m0 116 rfl) rfl
theorem q137 : (Jvm.Cond.instanceMethod ({ cls := "IncrLiveness", name := "pressure", desc := "()I" } : Jvm.MethodName)) ∈ lw_all := lw_g (lw_at lw_m0 118 rfl) rfl
theorem q138 : (Jvm.Cond.selects "IncrLiveness" ({ cls := "IncrLiveness", name := "pressure", desc := "()I" } : Jvm.MethodName) ({ cls := "IncrLiveness", name := "pressure", desc := "()I" } : Jvm.MethodName)) ∈ lw_all := lw_g (lw_at lw_m0 119 rfl) rfl
theorem q139 : (Jvm.Cond.code ({ cls := "IncrLiveness", name := "pressure", desc := "()I" } : Jvm.MethodName) prog_1_method_24_code (4 : Nat) (Option.some Jvm.ClassFile.FieldType.int)) ∈ lw_all := lw_g (lw_at lw_m0 120 rfl) rfl
theorem q141 : (Jvm.Cond.instanceMethod ({ cls := "IncrLiveness", name := "reaching", desc := "(II)I" } : Jvm.MethodName)) ∈ lw_all := lw_g (lw_at lw_m0 122 rfl) rfl
theorem q142 : (Jvm.Cond.selects "IncrLiveness" ({ cls := "IncrLiveness", name := "reaching", desc := "(II)I" } : Jvm.MethodName) ({ cls := "IncrLiveness", name := "reaching", desc := "(II)I" } : Jvm.MethodName)) ∈ lw_all := lw_g (lw_at lw_m0 123 rfl) rfl
theorem q143 : (Jvm.Cond.code ({ cls := "IncrLiveness", name := "reaching", desc := "(II)I" } : Jvm.MethodName) prog_1_method_25_code (8 : Nat) (Option.some Jvm.ClassFile.FieldType.int)) ∈ lw_all := lw_g (lw_at lw_m0 124 rfl) rfl
theorem q145 : (Jvm.Cond.instanceMethod ({ cls := "IncrLiveness", name := "crowded", desc := "()I" } : Jvm.MethodName)) ∈ lw_all := lw_g (lw_at lw_m0 126 rfl) rfl
theorem q146 : (Jvm.Cond.selects "IncrLiveness" ({ cls := "IncrLiveness", name := "crowded", desc := "()I" } : Jvm.MethodName) ({ cls := "IncrLiveness", name := "crowded", desc := "()I" } : Jvm.MethodName)) ∈ lw_all := lw_g (lw_at lw_m0 127 rfl) rfl
theorem q147 : (Jvm.Cond.code ({ cls := "IncrLiveness", name := "crowded", desc := "()I" } : Jvm.MethodName) prog_1_method_26_code (5 : Nat) (Option.some Jvm.ClassFile.FieldType.int)) ∈ lw_all := lw_g (lw_at lw_m0 128 rfl) rfl
theorem in_X0 : ∀ w ∈ wsX00, w ∈ lw_all := lw_in wsX00 [35, 37, 39, 41, 43] (by decide +kernel) (by decide +kernel)
end
section
/-! IncrLivenessModel -/
set_option maxRecDepth 100000
def RX1 : String := "IncrLivenessModel"
def TX1 : u_T := fun k => match k with
  | 0 => ("IncrLivenessModel", "next", "[I", true)
  | 1 => ("IncrLivenessModel", "uses", "[I", true)
  | 2 => ("IncrLivenessModel", "sets", "[I", true)
  | _ => ("IncrLivenessModel", "live", "[I", true)
def tyX1 : Nat → FieldType := fun k => match k with
  | 0 => .array .int
  | 1 => .array .int
  | 2 => .array .int
  | _ => .array .int
abbrev wsX10 : List Cond := u_ws RX1 TX1 4
theorem nmX1 : ∀ a, a < 4 → ∀ b, b < 4 → a ≠ b → (TX1 a).2.1 ≠ (TX1 b).2.1 := by decide +kernel
theorem tyX1_ok : ∀ k, k < 4 → parseFieldDescriptor (TX1 k).2.2.1 = some (tyX1 k) := by decide +kernel
abbrev cX1_init : ByteArray := prog_3_method_1_code
def yX1_init : MethodName := ⟨RX1, "<init>", "()V"⟩
theorem dX1_init_0 : decode cX1_init 0 = .ok (.aload_n 0, 1) := by decide +kernel
theorem dX1_init_1 : decode cX1_init 1 = .ok (.invokespecial 1, 3) := by decide +kernel
theorem dX1_init_4 : decode cX1_init 4 = .ok (.aload_n 0, 1) := by decide +kernel
theorem dX1_init_5 : decode cX1_init 5 = .ok (.bipush 12, 2) := by decide +kernel
theorem dX1_init_7 : decode cX1_init 7 = .ok (.newarray .int, 2) := by decide +kernel
theorem dX1_init_9 : decode cX1_init 9 = .ok (.putfield 7, 3) := by decide +kernel
theorem dX1_init_12 : decode cX1_init 12 = .ok (.aload_n 0, 1) := by decide +kernel
theorem dX1_init_13 : decode cX1_init 13 = .ok (.bipush 12, 2) := by decide +kernel
theorem dX1_init_15 : decode cX1_init 15 = .ok (.newarray .int, 2) := by decide +kernel
theorem dX1_init_17 : decode cX1_init 17 = .ok (.putfield 13, 3) := by decide +kernel
theorem dX1_init_20 : decode cX1_init 20 = .ok (.aload_n 0, 1) := by decide +kernel
theorem dX1_init_21 : decode cX1_init 21 = .ok (.bipush 12, 2) := by decide +kernel
theorem dX1_init_23 : decode cX1_init 23 = .ok (.newarray .int, 2) := by decide +kernel
theorem dX1_init_25 : decode cX1_init 25 = .ok (.putfield 16, 3) := by decide +kernel
theorem dX1_init_28 : decode cX1_init 28 = .ok (.aload_n 0, 1) := by decide +kernel
theorem dX1_init_29 : decode cX1_init 29 = .ok (.bipush 12, 2) := by decide +kernel
theorem dX1_init_31 : decode cX1_init 31 = .ok (.newarray .int, 2) := by decide +kernel
theorem dX1_init_33 : decode cX1_init 33 = .ok (.putfield 19, 3) := by decide +kernel
theorem dX1_init_36 : decode cX1_init 36 = .ok (.return_, 1) := by decide +kernel
abbrev cX1_arc : ByteArray := prog_3_method_6_code
def yX1_arc : MethodName := ⟨RX1, "arc", "(III)I"⟩
theorem dX1_arc_0 : decode cX1_arc 0 = .ok (.aload_n 0, 1) := by decide +kernel
theorem dX1_arc_1 : decode cX1_arc 1 = .ok (.iload_n 1, 1) := by decide +kernel
theorem dX1_arc_2 : decode cX1_arc 2 = .ok (.invokevirtual 26, 3) := by decide +kernel
theorem dX1_arc_5 : decode cX1_arc 5 = .ok (.ifCond .eq 11, 3) := by decide +kernel
theorem dX1_arc_8 : decode cX1_arc 8 = .ok (.aload_n 0, 1) := by decide +kernel
theorem dX1_arc_9 : decode cX1_arc 9 = .ok (.iload_n 2, 1) := by decide +kernel
theorem dX1_arc_10 : decode cX1_arc 10 = .ok (.invokevirtual 26, 3) := by decide +kernel
theorem dX1_arc_13 : decode cX1_arc 13 = .ok (.ifCond .ne 5, 3) := by decide +kernel
theorem dX1_arc_16 : decode cX1_arc 16 = .ok (.iconst (-1), 1) := by decide +kernel
theorem dX1_arc_17 : decode cX1_arc 17 = .ok (.ireturn, 1) := by decide +kernel
theorem dX1_arc_18 : decode cX1_arc 18 = .ok (.aload_n 0, 1) := by decide +kernel
theorem dX1_arc_19 : decode cX1_arc 19 = .ok (.getfield 7, 3) := by decide +kernel
theorem dX1_arc_22 : decode cX1_arc 22 = .ok (.iload_n 1, 1) := by decide +kernel
theorem dX1_arc_23 : decode cX1_arc 23 = .ok (.iaload, 1) := by decide +kernel
theorem dX1_arc_24 : decode cX1_arc 24 = .ok (.iload_n 2, 1) := by decide +kernel
theorem dX1_arc_25 : decode cX1_arc 25 = .ok (.ishr, 1) := by decide +kernel
theorem dX1_arc_26 : decode cX1_arc 26 = .ok (.iconst 1, 1) := by decide +kernel
theorem dX1_arc_27 : decode cX1_arc 27 = .ok (.iand, 1) := by decide +kernel
theorem dX1_arc_28 : decode cX1_arc 28 = .ok (.istore 4, 2) := by decide +kernel
theorem dX1_arc_30 : decode cX1_arc 30 = .ok (.aload_n 0, 1) := by decide +kernel
theorem dX1_arc_31 : decode cX1_arc 31 = .ok (.getfield 7, 3) := by decide +kernel
theorem dX1_arc_34 : decode cX1_arc 34 = .ok (.iload_n 1, 1) := by decide +kernel
theorem dX1_arc_35 : decode cX1_arc 35 = .ok (.iload_n 3, 1) := by decide +kernel
theorem dX1_arc_36 : decode cX1_arc 36 = .ok (.ifCond .eq 16, 3) := by decide +kernel
theorem dX1_arc_39 : decode cX1_arc 39 = .ok (.aload_n 0, 1) := by decide +kernel
theorem dX1_arc_40 : decode cX1_arc 40 = .ok (.getfield 7, 3) := by decide +kernel
theorem dX1_arc_43 : decode cX1_arc 43 = .ok (.iload_n 1, 1) := by decide +kernel
theorem dX1_arc_44 : decode cX1_arc 44 = .ok (.iaload, 1) := by decide +kernel
theorem dX1_arc_45 : decode cX1_arc 45 = .ok (.iconst 1, 1) := by decide +kernel
theorem dX1_arc_46 : decode cX1_arc 46 = .ok (.iload_n 2, 1) := by decide +kernel
theorem dX1_arc_47 : decode cX1_arc 47 = .ok (.ishl, 1) := by decide +kernel
theorem dX1_arc_48 : decode cX1_arc 48 = .ok (.ior, 1) := by decide +kernel
theorem dX1_arc_49 : decode cX1_arc 49 = .ok (.goto 15, 3) := by decide +kernel
theorem dX1_arc_52 : decode cX1_arc 52 = .ok (.aload_n 0, 1) := by decide +kernel
theorem dX1_arc_53 : decode cX1_arc 53 = .ok (.getfield 7, 3) := by decide +kernel
theorem dX1_arc_56 : decode cX1_arc 56 = .ok (.iload_n 1, 1) := by decide +kernel
theorem dX1_arc_57 : decode cX1_arc 57 = .ok (.iaload, 1) := by decide +kernel
theorem dX1_arc_58 : decode cX1_arc 58 = .ok (.iconst 1, 1) := by decide +kernel
theorem dX1_arc_59 : decode cX1_arc 59 = .ok (.iload_n 2, 1) := by decide +kernel
theorem dX1_arc_60 : decode cX1_arc 60 = .ok (.ishl, 1) := by decide +kernel
theorem dX1_arc_61 : decode cX1_arc 61 = .ok (.iconst (-1), 1) := by decide +kernel
theorem dX1_arc_62 : decode cX1_arc 62 = .ok (.ixor, 1) := by decide +kernel
theorem dX1_arc_63 : decode cX1_arc 63 = .ok (.iand, 1) := by decide +kernel
theorem dX1_arc_64 : decode cX1_arc 64 = .ok (.iastore, 1) := by decide +kernel
theorem dX1_arc_65 : decode cX1_arc 65 = .ok (.iload 4, 2) := by decide +kernel
theorem dX1_arc_67 : decode cX1_arc 67 = .ok (.ireturn, 1) := by decide +kernel
abbrev cX1_isBlock : ByteArray := prog_3_method_2_code
def yX1_isBlock : MethodName := ⟨RX1, "isBlock", "(I)Z"⟩
theorem dX1_isBlock_0 : decode cX1_isBlock 0 = .ok (.iload_n 1, 1) := by decide +kernel
theorem dX1_isBlock_1 : decode cX1_isBlock 1 = .ok (.ifCond .lt 13, 3) := by decide +kernel
theorem dX1_isBlock_4 : decode cX1_isBlock 4 = .ok (.iload_n 1, 1) := by decide +kernel
theorem dX1_isBlock_5 : decode cX1_isBlock 5 = .ok (.bipush 11, 2) := by decide +kernel
theorem dX1_isBlock_7 : decode cX1_isBlock 7 = .ok (.if_icmp .gt 7, 3) := by decide +kernel
theorem dX1_isBlock_10 : decode cX1_isBlock 10 = .ok (.iconst 1, 1) := by decide +kernel
theorem dX1_isBlock_11 : decode cX1_isBlock 11 = .ok (.goto 4, 3) := by decide +kernel
theorem dX1_isBlock_14 : decode cX1_isBlock 14 = .ok (.iconst 0, 1) := by decide +kernel
theorem dX1_isBlock_15 : decode cX1_isBlock 15 = .ok (.ireturn, 1) := by decide +kernel
abbrev cX1_hasArc : ByteArray := prog_3_method_7_code
def yX1_hasArc : MethodName := ⟨RX1, "hasArc", "(II)Z"⟩
theorem dX1_hasArc_0 : decode cX1_hasArc 0 = .ok (.aload_n 0, 1) := by decide +kernel
theorem dX1_hasArc_1 : decode cX1_hasArc 1 = .ok (.iload_n 1, 1) := by decide +kernel
theorem dX1_hasArc_2 : decode cX1_hasArc 2 = .ok (.invokevirtual 26, 3) := by decide +kernel
theorem dX1_hasArc_5 : decode cX1_hasArc 5 = .ok (.ifCond .eq 29, 3) := by decide +kernel
theorem dX1_hasArc_8 : decode cX1_hasArc 8 = .ok (.aload_n 0, 1) := by decide +kernel
theorem dX1_hasArc_9 : decode cX1_hasArc 9 = .ok (.iload_n 2, 1) := by decide +kernel
theorem dX1_hasArc_10 : decode cX1_hasArc 10 = .ok (.invokevirtual 26, 3) := by decide +kernel
theorem dX1_hasArc_13 : decode cX1_hasArc 13 = .ok (.ifCond .eq 21, 3) := by decide +kernel
theorem dX1_hasArc_16 : decode cX1_hasArc 16 = .ok (.aload_n 0, 1) := by decide +kernel
theorem dX1_hasArc_17 : decode cX1_hasArc 17 = .ok (.aload_n 0, 1) := by decide +kernel
theorem dX1_hasArc_18 : decode cX1_hasArc 18 = .ok (.getfield 7, 3) := by decide +kernel
theorem dX1_hasArc_21 : decode cX1_hasArc 21 = .ok (.iload_n 1, 1) := by decide +kernel
theorem dX1_hasArc_22 : decode cX1_hasArc 22 = .ok (.iaload, 1) := by decide +kernel
theorem dX1_hasArc_23 : decode cX1_hasArc 23 = .ok (.iload_n 2, 1) := by decide +kernel
theorem dX1_hasArc_24 : decode cX1_hasArc 24 = .ok (.invokevirtual 22, 3) := by decide +kernel
theorem dX1_hasArc_27 : decode cX1_hasArc 27 = .ok (.ifCond .eq 7, 3) := by decide +kernel
theorem dX1_hasArc_30 : decode cX1_hasArc 30 = .ok (.iconst 1, 1) := by decide +kernel
theorem dX1_hasArc_31 : decode cX1_hasArc 31 = .ok (.goto 4, 3) := by decide +kernel
theorem dX1_hasArc_34 : decode cX1_hasArc 34 = .ok (.iconst 0, 1) := by decide +kernel
theorem dX1_hasArc_35 : decode cX1_hasArc 35 = .ok (.ireturn, 1) := by decide +kernel
abbrev cX1_has : ByteArray := prog_3_method_4_code
def yX1_has : MethodName := ⟨RX1, "has", "(II)Z"⟩
theorem dX1_has_0 : decode cX1_has 0 = .ok (.iload_n 1, 1) := by decide +kernel
theorem dX1_has_1 : decode cX1_has 1 = .ok (.iload_n 2, 1) := by decide +kernel
theorem dX1_has_2 : decode cX1_has 2 = .ok (.ishr, 1) := by decide +kernel
theorem dX1_has_3 : decode cX1_has 3 = .ok (.iconst 1, 1) := by decide +kernel
theorem dX1_has_4 : decode cX1_has 4 = .ok (.iand, 1) := by decide +kernel
theorem dX1_has_5 : decode cX1_has 5 = .ok (.iconst 1, 1) := by decide +kernel
theorem dX1_has_6 : decode cX1_has 6 = .ok (.if_icmp .ne 7, 3) := by decide +kernel
theorem dX1_has_9 : decode cX1_has 9 = .ok (.iconst 1, 1) := by decide +kernel
theorem dX1_has_10 : decode cX1_has 10 = .ok (.goto 4, 3) := by decide +kernel
theorem dX1_has_13 : decode cX1_has 13 = .ok (.iconst 0, 1) := by decide +kernel
theorem dX1_has_14 : decode cX1_has 14 = .ok (.ireturn, 1) := by decide +kernel
abbrev cX1_use : ByteArray := prog_3_method_8_code
def yX1_use : MethodName := ⟨RX1, "use", "(III)I"⟩
theorem dX1_use_0 : decode cX1_use 0 = .ok (.aload_n 0, 1) := by decide +kernel
theorem dX1_use_1 : decode cX1_use 1 = .ok (.iload_n 1, 1) := by decide +kernel
theorem dX1_use_2 : decode cX1_use 2 = .ok (.invokevirtual 26, 3) := by decide +kernel
theorem dX1_use_5 : decode cX1_use 5 = .ok (.ifCond .eq 11, 3) := by decide +kernel
theorem dX1_use_8 : decode cX1_use 8 = .ok (.aload_n 0, 1) := by decide +kernel
theorem dX1_use_9 : decode cX1_use 9 = .ok (.iload_n 2, 1) := by decide +kernel
theorem dX1_use_10 : decode cX1_use 10 = .ok (.invokevirtual 30, 3) := by decide +kernel
theorem dX1_use_13 : decode cX1_use 13 = .ok (.ifCond .ne 5, 3) := by decide +kernel
theorem dX1_use_16 : decode cX1_use 16 = .ok (.iconst (-1), 1) := by decide +kernel
theorem dX1_use_17 : decode cX1_use 17 = .ok (.ireturn, 1) := by decide +kernel
theorem dX1_use_18 : decode cX1_use 18 = .ok (.aload_n 0, 1) := by decide +kernel
theorem dX1_use_19 : decode cX1_use 19 = .ok (.getfield 13, 3) := by decide +kernel
theorem dX1_use_22 : decode cX1_use 22 = .ok (.iload_n 1, 1) := by decide +kernel
theorem dX1_use_23 : decode cX1_use 23 = .ok (.iaload, 1) := by decide +kernel
theorem dX1_use_24 : decode cX1_use 24 = .ok (.iload_n 2, 1) := by decide +kernel
theorem dX1_use_25 : decode cX1_use 25 = .ok (.ishr, 1) := by decide +kernel
theorem dX1_use_26 : decode cX1_use 26 = .ok (.iconst 1, 1) := by decide +kernel
theorem dX1_use_27 : decode cX1_use 27 = .ok (.iand, 1) := by decide +kernel
theorem dX1_use_28 : decode cX1_use 28 = .ok (.istore 4, 2) := by decide +kernel
theorem dX1_use_30 : decode cX1_use 30 = .ok (.aload_n 0, 1) := by decide +kernel
theorem dX1_use_31 : decode cX1_use 31 = .ok (.getfield 13, 3) := by decide +kernel
theorem dX1_use_34 : decode cX1_use 34 = .ok (.iload_n 1, 1) := by decide +kernel
theorem dX1_use_35 : decode cX1_use 35 = .ok (.iload_n 3, 1) := by decide +kernel
theorem dX1_use_36 : decode cX1_use 36 = .ok (.ifCond .eq 16, 3) := by decide +kernel
theorem dX1_use_39 : decode cX1_use 39 = .ok (.aload_n 0, 1) := by decide +kernel
theorem dX1_use_40 : decode cX1_use 40 = .ok (.getfield 13, 3) := by decide +kernel
theorem dX1_use_43 : decode cX1_use 43 = .ok (.iload_n 1, 1) := by decide +kernel
theorem dX1_use_44 : decode cX1_use 44 = .ok (.iaload, 1) := by decide +kernel
theorem dX1_use_45 : decode cX1_use 45 = .ok (.iconst 1, 1) := by decide +kernel
theorem dX1_use_46 : decode cX1_use 46 = .ok (.iload_n 2, 1) := by decide +kernel
theorem dX1_use_47 : decode cX1_use 47 = .ok (.ishl, 1) := by decide +kernel
theorem dX1_use_48 : decode cX1_use 48 = .ok (.ior, 1) := by decide +kernel
theorem dX1_use_49 : decode cX1_use 49 = .ok (.goto 15, 3) := by decide +kernel
theorem dX1_use_52 : decode cX1_use 52 = .ok (.aload_n 0, 1) := by decide +kernel
theorem dX1_use_53 : decode cX1_use 53 = .ok (.getfield 13, 3) := by decide +kernel
theorem dX1_use_56 : decode cX1_use 56 = .ok (.iload_n 1, 1) := by decide +kernel
theorem dX1_use_57 : decode cX1_use 57 = .ok (.iaload, 1) := by decide +kernel
theorem dX1_use_58 : decode cX1_use 58 = .ok (.iconst 1, 1) := by decide +kernel
theorem dX1_use_59 : decode cX1_use 59 = .ok (.iload_n 2, 1) := by decide +kernel
theorem dX1_use_60 : decode cX1_use 60 = .ok (.ishl, 1) := by decide +kernel
theorem dX1_use_61 : decode cX1_use 61 = .ok (.iconst (-1), 1) := by decide +kernel
theorem dX1_use_62 : decode cX1_use 62 = .ok (.ixor, 1) := by decide +kernel
theorem dX1_use_63 : decode cX1_use 63 = .ok (.iand, 1) := by decide +kernel
theorem dX1_use_64 : decode cX1_use 64 = .ok (.iastore, 1) := by decide +kernel
theorem dX1_use_65 : decode cX1_use 65 = .ok (.iload 4, 2) := by decide +kernel
theorem dX1_use_67 : decode cX1_use 67 = .ok (.ireturn, 1) := by decide +kernel
abbrev cX1_isVariable : ByteArray := prog_3_method_3_code
def yX1_isVariable : MethodName := ⟨RX1, "isVariable", "(I)Z"⟩
theorem dX1_isVariable_0 : decode cX1_isVariable 0 = .ok (.iload_n 1, 1) := by decide +kernel
theorem dX1_isVariable_1 : decode cX1_isVariable 1 = .ok (.ifCond .lt 13, 3) := by decide +kernel
theorem dX1_isVariable_4 : decode cX1_isVariable 4 = .ok (.iload_n 1, 1) := by decide +kernel
theorem dX1_isVariable_5 : decode cX1_isVariable 5 = .ok (.bipush 19, 2) := by decide +kernel
theorem dX1_isVariable_7 : decode cX1_isVariable 7 = .ok (.if_icmp .gt 7, 3) := by decide +kernel
theorem dX1_isVariable_10 : decode cX1_isVariable 10 = .ok (.iconst 1, 1) := by decide +kernel
theorem dX1_isVariable_11 : decode cX1_isVariable 11 = .ok (.goto 4, 3) := by decide +kernel
theorem dX1_isVariable_14 : decode cX1_isVariable 14 = .ok (.iconst 0, 1) := by decide +kernel
theorem dX1_isVariable_15 : decode cX1_isVariable 15 = .ok (.ireturn, 1) := by decide +kernel
abbrev cX1_set : ByteArray := prog_3_method_9_code
def yX1_set : MethodName := ⟨RX1, "set", "(III)I"⟩
theorem dX1_set_0 : decode cX1_set 0 = .ok (.aload_n 0, 1) := by decide +kernel
theorem dX1_set_1 : decode cX1_set 1 = .ok (.iload_n 1, 1) := by decide +kernel
theorem dX1_set_2 : decode cX1_set 2 = .ok (.invokevirtual 26, 3) := by decide +kernel
theorem dX1_set_5 : decode cX1_set 5 = .ok (.ifCond .eq 11, 3) := by decide +kernel
theorem dX1_set_8 : decode cX1_set 8 = .ok (.aload_n 0, 1) := by decide +kernel
theorem dX1_set_9 : decode cX1_set 9 = .ok (.iload_n 2, 1) := by decide +kernel
theorem dX1_set_10 : decode cX1_set 10 = .ok (.invokevirtual 30, 3) := by decide +kernel
theorem dX1_set_13 : decode cX1_set 13 = .ok (.ifCond .ne 5, 3) := by decide +kernel
theorem dX1_set_16 : decode cX1_set 16 = .ok (.iconst (-1), 1) := by decide +kernel
theorem dX1_set_17 : decode cX1_set 17 = .ok (.ireturn, 1) := by decide +kernel
theorem dX1_set_18 : decode cX1_set 18 = .ok (.aload_n 0, 1) := by decide +kernel
theorem dX1_set_19 : decode cX1_set 19 = .ok (.getfield 16, 3) := by decide +kernel
theorem dX1_set_22 : decode cX1_set 22 = .ok (.iload_n 1, 1) := by decide +kernel
theorem dX1_set_23 : decode cX1_set 23 = .ok (.iaload, 1) := by decide +kernel
theorem dX1_set_24 : decode cX1_set 24 = .ok (.iload_n 2, 1) := by decide +kernel
theorem dX1_set_25 : decode cX1_set 25 = .ok (.ishr, 1) := by decide +kernel
theorem dX1_set_26 : decode cX1_set 26 = .ok (.iconst 1, 1) := by decide +kernel
theorem dX1_set_27 : decode cX1_set 27 = .ok (.iand, 1) := by decide +kernel
theorem dX1_set_28 : decode cX1_set 28 = .ok (.istore 4, 2) := by decide +kernel
theorem dX1_set_30 : decode cX1_set 30 = .ok (.aload_n 0, 1) := by decide +kernel
theorem dX1_set_31 : decode cX1_set 31 = .ok (.getfield 16, 3) := by decide +kernel
theorem dX1_set_34 : decode cX1_set 34 = .ok (.iload_n 1, 1) := by decide +kernel
theorem dX1_set_35 : decode cX1_set 35 = .ok (.iload_n 3, 1) := by decide +kernel
theorem dX1_set_36 : decode cX1_set 36 = .ok (.ifCond .eq 16, 3) := by decide +kernel
theorem dX1_set_39 : decode cX1_set 39 = .ok (.aload_n 0, 1) := by decide +kernel
theorem dX1_set_40 : decode cX1_set 40 = .ok (.getfield 16, 3) := by decide +kernel
theorem dX1_set_43 : decode cX1_set 43 = .ok (.iload_n 1, 1) := by decide +kernel
theorem dX1_set_44 : decode cX1_set 44 = .ok (.iaload, 1) := by decide +kernel
theorem dX1_set_45 : decode cX1_set 45 = .ok (.iconst 1, 1) := by decide +kernel
theorem dX1_set_46 : decode cX1_set 46 = .ok (.iload_n 2, 1) := by decide +kernel
theorem dX1_set_47 : decode cX1_set 47 = .ok (.ishl, 1) := by decide +kernel
theorem dX1_set_48 : decode cX1_set 48 = .ok (.ior, 1) := by decide +kernel
theorem dX1_set_49 : decode cX1_set 49 = .ok (.goto 15, 3) := by decide +kernel
theorem dX1_set_52 : decode cX1_set 52 = .ok (.aload_n 0, 1) := by decide +kernel
theorem dX1_set_53 : decode cX1_set 53 = .ok (.getfield 16, 3) := by decide +kernel
theorem dX1_set_56 : decode cX1_set 56 = .ok (.iload_n 1, 1) := by decide +kernel
theorem dX1_set_57 : decode cX1_set 57 = .ok (.iaload, 1) := by decide +kernel
theorem dX1_set_58 : decode cX1_set 58 = .ok (.iconst 1, 1) := by decide +kernel
theorem dX1_set_59 : decode cX1_set 59 = .ok (.iload_n 2, 1) := by decide +kernel
theorem dX1_set_60 : decode cX1_set 60 = .ok (.ishl, 1) := by decide +kernel
theorem dX1_set_61 : decode cX1_set 61 = .ok (.iconst (-1), 1) := by decide +kernel
theorem dX1_set_62 : decode cX1_set 62 = .ok (.ixor, 1) := by decide +kernel
theorem dX1_set_63 : decode cX1_set 63 = .ok (.iand, 1) := by decide +kernel
theorem dX1_set_64 : decode cX1_set 64 = .ok (.iastore, 1) := by decide +kernel
theorem dX1_set_65 : decode cX1_set 65 = .ok (.iload 4, 2) := by decide +kernel
theorem dX1_set_67 : decode cX1_set 67 = .ok (.ireturn, 1) := by decide +kernel
abbrev cX1_block : ByteArray := prog_3_method_10_code
def yX1_block : MethodName := ⟨RX1, "block", "(III)I"⟩
theorem dX1_block_0 : decode cX1_block 0 = .ok (.aload_n 0, 1) := by decide +kernel
theorem dX1_block_1 : decode cX1_block 1 = .ok (.iload_n 1, 1) := by decide +kernel
theorem dX1_block_2 : decode cX1_block 2 = .ok (.invokevirtual 26, 3) := by decide +kernel
theorem dX1_block_5 : decode cX1_block 5 = .ok (.ifCond .eq 23, 3) := by decide +kernel
theorem dX1_block_8 : decode cX1_block 8 = .ok (.iload_n 2, 1) := by decide +kernel
theorem dX1_block_9 : decode cX1_block 9 = .ok (.ifCond .lt 19, 3) := by decide +kernel
theorem dX1_block_12 : decode cX1_block 12 = .ok (.iload_n 2, 1) := by decide +kernel
theorem dX1_block_13 : decode cX1_block 13 = .ok (.ldc 33, 2) := by decide +kernel
theorem dX1_block_15 : decode cX1_block 15 = .ok (.if_icmp .gt 13, 3) := by decide +kernel
theorem dX1_block_18 : decode cX1_block 18 = .ok (.iload_n 3, 1) := by decide +kernel
theorem dX1_block_19 : decode cX1_block 19 = .ok (.ifCond .lt 9, 3) := by decide +kernel
theorem dX1_block_22 : decode cX1_block 22 = .ok (.iload_n 3, 1) := by decide +kernel
theorem dX1_block_23 : decode cX1_block 23 = .ok (.ldc 33, 2) := by decide +kernel
theorem dX1_block_25 : decode cX1_block 25 = .ok (.if_icmp .le 5, 3) := by decide +kernel
theorem dX1_block_28 : decode cX1_block 28 = .ok (.iconst (-1), 1) := by decide +kernel
theorem dX1_block_29 : decode cX1_block 29 = .ok (.ireturn, 1) := by decide +kernel
theorem dX1_block_30 : decode cX1_block 30 = .ok (.aload_n 0, 1) := by decide +kernel
theorem dX1_block_31 : decode cX1_block 31 = .ok (.getfield 13, 3) := by decide +kernel
theorem dX1_block_34 : decode cX1_block 34 = .ok (.iload_n 1, 1) := by decide +kernel
theorem dX1_block_35 : decode cX1_block 35 = .ok (.iload_n 2, 1) := by decide +kernel
theorem dX1_block_36 : decode cX1_block 36 = .ok (.iastore, 1) := by decide +kernel
theorem dX1_block_37 : decode cX1_block 37 = .ok (.aload_n 0, 1) := by decide +kernel
theorem dX1_block_38 : decode cX1_block 38 = .ok (.getfield 16, 3) := by decide +kernel
theorem dX1_block_41 : decode cX1_block 41 = .ok (.iload_n 1, 1) := by decide +kernel
theorem dX1_block_42 : decode cX1_block 42 = .ok (.iload_n 3, 1) := by decide +kernel
theorem dX1_block_43 : decode cX1_block 43 = .ok (.iastore, 1) := by decide +kernel
theorem dX1_block_44 : decode cX1_block 44 = .ok (.iconst 0, 1) := by decide +kernel
theorem dX1_block_45 : decode cX1_block 45 = .ok (.ireturn, 1) := by decide +kernel
abbrev cX1_cutOff : ByteArray := prog_3_method_11_code
def yX1_cutOff : MethodName := ⟨RX1, "cutOff", "(I)I"⟩
theorem dX1_cutOff_0 : decode cX1_cutOff 0 = .ok (.aload_n 0, 1) := by decide +kernel
theorem dX1_cutOff_1 : decode cX1_cutOff 1 = .ok (.iload_n 1, 1) := by decide +kernel
theorem dX1_cutOff_2 : decode cX1_cutOff 2 = .ok (.invokevirtual 26, 3) := by decide +kernel
theorem dX1_cutOff_5 : decode cX1_cutOff 5 = .ok (.ifCond .ne 5, 3) := by decide +kernel
theorem dX1_cutOff_8 : decode cX1_cutOff 8 = .ok (.iconst (-1), 1) := by decide +kernel
theorem dX1_cutOff_9 : decode cX1_cutOff 9 = .ok (.ireturn, 1) := by decide +kernel
theorem dX1_cutOff_10 : decode cX1_cutOff 10 = .ok (.aload_n 0, 1) := by decide +kernel
theorem dX1_cutOff_11 : decode cX1_cutOff 11 = .ok (.aload_n 0, 1) := by decide +kernel
theorem dX1_cutOff_12 : decode cX1_cutOff 12 = .ok (.getfield 7, 3) := by decide +kernel
theorem dX1_cutOff_15 : decode cX1_cutOff 15 = .ok (.iload_n 1, 1) := by decide +kernel
theorem dX1_cutOff_16 : decode cX1_cutOff 16 = .ok (.iaload, 1) := by decide +kernel
theorem dX1_cutOff_17 : decode cX1_cutOff 17 = .ok (.invokevirtual 34, 3) := by decide +kernel
theorem dX1_cutOff_20 : decode cX1_cutOff 20 = .ok (.istore_n 2, 1) := by decide +kernel
theorem dX1_cutOff_21 : decode cX1_cutOff 21 = .ok (.aload_n 0, 1) := by decide +kernel
theorem dX1_cutOff_22 : decode cX1_cutOff 22 = .ok (.getfield 7, 3) := by decide +kernel
theorem dX1_cutOff_25 : decode cX1_cutOff 25 = .ok (.iload_n 1, 1) := by decide +kernel
theorem dX1_cutOff_26 : decode cX1_cutOff 26 = .ok (.iconst 0, 1) := by decide +kernel
theorem dX1_cutOff_27 : decode cX1_cutOff 27 = .ok (.iastore, 1) := by decide +kernel
theorem dX1_cutOff_28 : decode cX1_cutOff 28 = .ok (.iconst 0, 1) := by decide +kernel
theorem dX1_cutOff_29 : decode cX1_cutOff 29 = .ok (.istore_n 3, 1) := by decide +kernel
theorem dX1_cutOff_30 : decode cX1_cutOff 30 = .ok (.iload_n 3, 1) := by decide +kernel
theorem dX1_cutOff_31 : decode cX1_cutOff 31 = .ok (.bipush 12, 2) := by decide +kernel
theorem dX1_cutOff_33 : decode cX1_cutOff 33 = .ok (.if_icmp .ge 49, 3) := by decide +kernel
theorem dX1_cutOff_36 : decode cX1_cutOff 36 = .ok (.aload_n 0, 1) := by decide +kernel
theorem dX1_cutOff_37 : decode cX1_cutOff 37 = .ok (.aload_n 0, 1) := by decide +kernel
theorem dX1_cutOff_38 : decode cX1_cutOff 38 = .ok (.getfield 7, 3) := by decide +kernel
theorem dX1_cutOff_41 : decode cX1_cutOff 41 = .ok (.iload_n 3, 1) := by decide +kernel
theorem dX1_cutOff_42 : decode cX1_cutOff 42 = .ok (.iaload, 1) := by decide +kernel
theorem dX1_cutOff_43 : decode cX1_cutOff 43 = .ok (.iload_n 1, 1) := by decide +kernel
theorem dX1_cutOff_44 : decode cX1_cutOff 44 = .ok (.invokevirtual 22, 3) := by decide +kernel
theorem dX1_cutOff_47 : decode cX1_cutOff 47 = .ok (.ifCond .eq 9, 3) := by decide +kernel
theorem dX1_cutOff_50 : decode cX1_cutOff 50 = .ok (.iload_n 2, 1) := by decide +kernel
theorem dX1_cutOff_51 : decode cX1_cutOff 51 = .ok (.iconst 1, 1) := by decide +kernel
theorem dX1_cutOff_52 : decode cX1_cutOff 52 = .ok (.iadd, 1) := by decide +kernel
theorem dX1_cutOff_53 : decode cX1_cutOff 53 = .ok (.goto 4, 3) := by decide +kernel
theorem dX1_cutOff_56 : decode cX1_cutOff 56 = .ok (.iload_n 2, 1) := by decide +kernel
theorem dX1_cutOff_57 : decode cX1_cutOff 57 = .ok (.istore_n 2, 1) := by decide +kernel
theorem dX1_cutOff_58 : decode cX1_cutOff 58 = .ok (.aload_n 0, 1) := by decide +kernel
theorem dX1_cutOff_59 : decode cX1_cutOff 59 = .ok (.getfield 7, 3) := by decide +kernel
theorem dX1_cutOff_62 : decode cX1_cutOff 62 = .ok (.iload_n 3, 1) := by decide +kernel
theorem dX1_cutOff_63 : decode cX1_cutOff 63 = .ok (.aload_n 0, 1) := by decide +kernel
theorem dX1_cutOff_64 : decode cX1_cutOff 64 = .ok (.getfield 7, 3) := by decide +kernel
theorem dX1_cutOff_67 : decode cX1_cutOff 67 = .ok (.iload_n 3, 1) := by decide +kernel
theorem dX1_cutOff_68 : decode cX1_cutOff 68 = .ok (.iaload, 1) := by decide +kernel
theorem dX1_cutOff_69 : decode cX1_cutOff 69 = .ok (.iconst 1, 1) := by decide +kernel
theorem dX1_cutOff_70 : decode cX1_cutOff 70 = .ok (.iload_n 1, 1) := by decide +kernel
theorem dX1_cutOff_71 : decode cX1_cutOff 71 = .ok (.ishl, 1) := by decide +kernel
theorem dX1_cutOff_72 : decode cX1_cutOff 72 = .ok (.iconst (-1), 1) := by decide +kernel
theorem dX1_cutOff_73 : decode cX1_cutOff 73 = .ok (.ixor, 1) := by decide +kernel
theorem dX1_cutOff_74 : decode cX1_cutOff 74 = .ok (.iand, 1) := by decide +kernel
theorem dX1_cutOff_75 : decode cX1_cutOff 75 = .ok (.iastore, 1) := by decide +kernel
theorem dX1_cutOff_76 : decode cX1_cutOff 76 = .ok (.iinc 3 1, 3) := by decide +kernel
theorem dX1_cutOff_79 : decode cX1_cutOff 79 = .ok (.goto (-49), 3) := by decide +kernel
theorem dX1_cutOff_82 : decode cX1_cutOff 82 = .ok (.iload_n 2, 1) := by decide +kernel
theorem dX1_cutOff_83 : decode cX1_cutOff 83 = .ok (.ireturn, 1) := by decide +kernel
abbrev cX1_sizeOf : ByteArray := prog_3_method_5_code
def yX1_sizeOf : MethodName := ⟨RX1, "sizeOf", "(I)I"⟩
theorem dX1_sizeOf_0 : decode cX1_sizeOf 0 = .ok (.iconst 0, 1) := by decide +kernel
theorem dX1_sizeOf_1 : decode cX1_sizeOf 1 = .ok (.istore_n 2, 1) := by decide +kernel
theorem dX1_sizeOf_2 : decode cX1_sizeOf 2 = .ok (.iconst 0, 1) := by decide +kernel
theorem dX1_sizeOf_3 : decode cX1_sizeOf 3 = .ok (.istore_n 3, 1) := by decide +kernel
theorem dX1_sizeOf_4 : decode cX1_sizeOf 4 = .ok (.iload_n 3, 1) := by decide +kernel
theorem dX1_sizeOf_5 : decode cX1_sizeOf 5 = .ok (.bipush 20, 2) := by decide +kernel
theorem dX1_sizeOf_7 : decode cX1_sizeOf 7 = .ok (.if_icmp .ge 26, 3) := by decide +kernel
theorem dX1_sizeOf_10 : decode cX1_sizeOf 10 = .ok (.aload_n 0, 1) := by decide +kernel
theorem dX1_sizeOf_11 : decode cX1_sizeOf 11 = .ok (.iload_n 1, 1) := by decide +kernel
theorem dX1_sizeOf_12 : decode cX1_sizeOf 12 = .ok (.iload_n 3, 1) := by decide +kernel
theorem dX1_sizeOf_13 : decode cX1_sizeOf 13 = .ok (.invokevirtual 22, 3) := by decide +kernel
theorem dX1_sizeOf_16 : decode cX1_sizeOf 16 = .ok (.ifCond .eq 9, 3) := by decide +kernel
theorem dX1_sizeOf_19 : decode cX1_sizeOf 19 = .ok (.iload_n 2, 1) := by decide +kernel
theorem dX1_sizeOf_20 : decode cX1_sizeOf 20 = .ok (.iconst 1, 1) := by decide +kernel
theorem dX1_sizeOf_21 : decode cX1_sizeOf 21 = .ok (.iadd, 1) := by decide +kernel
theorem dX1_sizeOf_22 : decode cX1_sizeOf 22 = .ok (.goto 4, 3) := by decide +kernel
theorem dX1_sizeOf_25 : decode cX1_sizeOf 25 = .ok (.iload_n 2, 1) := by decide +kernel
theorem dX1_sizeOf_26 : decode cX1_sizeOf 26 = .ok (.istore_n 2, 1) := by decide +kernel
theorem dX1_sizeOf_27 : decode cX1_sizeOf 27 = .ok (.iinc 3 1, 3) := by decide +kernel
theorem dX1_sizeOf_30 : decode cX1_sizeOf 30 = .ok (.goto (-26), 3) := by decide +kernel
theorem dX1_sizeOf_33 : decode cX1_sizeOf 33 = .ok (.iload_n 2, 1) := by decide +kernel
theorem dX1_sizeOf_34 : decode cX1_sizeOf 34 = .ok (.ireturn, 1) := by decide +kernel
abbrev cX1_takeOver : ByteArray := prog_3_method_12_code
def yX1_takeOver : MethodName := ⟨RX1, "takeOver", "(II)I"⟩
theorem dX1_takeOver_0 : decode cX1_takeOver 0 = .ok (.aload_n 0, 1) := by decide +kernel
theorem dX1_takeOver_1 : decode cX1_takeOver 1 = .ok (.iload_n 1, 1) := by decide +kernel
theorem dX1_takeOver_2 : decode cX1_takeOver 2 = .ok (.invokevirtual 26, 3) := by decide +kernel
theorem dX1_takeOver_5 : decode cX1_takeOver 5 = .ok (.ifCond .eq 16, 3) := by decide +kernel
theorem dX1_takeOver_8 : decode cX1_takeOver 8 = .ok (.aload_n 0, 1) := by decide +kernel
theorem dX1_takeOver_9 : decode cX1_takeOver 9 = .ok (.iload_n 2, 1) := by decide +kernel
theorem dX1_takeOver_10 : decode cX1_takeOver 10 = .ok (.invokevirtual 26, 3) := by decide +kernel
theorem dX1_takeOver_13 : decode cX1_takeOver 13 = .ok (.ifCond .eq 8, 3) := by decide +kernel
theorem dX1_takeOver_16 : decode cX1_takeOver 16 = .ok (.iload_n 1, 1) := by decide +kernel
theorem dX1_takeOver_17 : decode cX1_takeOver 17 = .ok (.iload_n 2, 1) := by decide +kernel
theorem dX1_takeOver_18 : decode cX1_takeOver 18 = .ok (.if_icmp .ne 5, 3) := by decide +kernel
theorem dX1_takeOver_21 : decode cX1_takeOver 21 = .ok (.iconst (-1), 1) := by decide +kernel
theorem dX1_takeOver_22 : decode cX1_takeOver 22 = .ok (.ireturn, 1) := by decide +kernel
theorem dX1_takeOver_23 : decode cX1_takeOver 23 = .ok (.aload_n 0, 1) := by decide +kernel
theorem dX1_takeOver_24 : decode cX1_takeOver 24 = .ok (.aload_n 0, 1) := by decide +kernel
theorem dX1_takeOver_25 : decode cX1_takeOver 25 = .ok (.getfield 7, 3) := by decide +kernel
theorem dX1_takeOver_28 : decode cX1_takeOver 28 = .ok (.iload_n 2, 1) := by decide +kernel
theorem dX1_takeOver_29 : decode cX1_takeOver 29 = .ok (.iaload, 1) := by decide +kernel
theorem dX1_takeOver_30 : decode cX1_takeOver 30 = .ok (.aload_n 0, 1) := by decide +kernel
theorem dX1_takeOver_31 : decode cX1_takeOver 31 = .ok (.getfield 7, 3) := by decide +kernel
theorem dX1_takeOver_34 : decode cX1_takeOver 34 = .ok (.iload_n 1, 1) := by decide +kernel
theorem dX1_takeOver_35 : decode cX1_takeOver 35 = .ok (.iaload, 1) := by decide +kernel
theorem dX1_takeOver_36 : decode cX1_takeOver 36 = .ok (.iconst (-1), 1) := by decide +kernel
theorem dX1_takeOver_37 : decode cX1_takeOver 37 = .ok (.ixor, 1) := by decide +kernel
theorem dX1_takeOver_38 : decode cX1_takeOver 38 = .ok (.iand, 1) := by decide +kernel
theorem dX1_takeOver_39 : decode cX1_takeOver 39 = .ok (.invokevirtual 34, 3) := by decide +kernel
theorem dX1_takeOver_42 : decode cX1_takeOver 42 = .ok (.istore_n 3, 1) := by decide +kernel
theorem dX1_takeOver_43 : decode cX1_takeOver 43 = .ok (.aload_n 0, 1) := by decide +kernel
theorem dX1_takeOver_44 : decode cX1_takeOver 44 = .ok (.getfield 7, 3) := by decide +kernel
theorem dX1_takeOver_47 : decode cX1_takeOver 47 = .ok (.iload_n 1, 1) := by decide +kernel
theorem dX1_takeOver_48 : decode cX1_takeOver 48 = .ok (.aload_n 0, 1) := by decide +kernel
theorem dX1_takeOver_49 : decode cX1_takeOver 49 = .ok (.getfield 7, 3) := by decide +kernel
theorem dX1_takeOver_52 : decode cX1_takeOver 52 = .ok (.iload_n 1, 1) := by decide +kernel
theorem dX1_takeOver_53 : decode cX1_takeOver 53 = .ok (.iaload, 1) := by decide +kernel
theorem dX1_takeOver_54 : decode cX1_takeOver 54 = .ok (.aload_n 0, 1) := by decide +kernel
theorem dX1_takeOver_55 : decode cX1_takeOver 55 = .ok (.getfield 7, 3) := by decide +kernel
theorem dX1_takeOver_58 : decode cX1_takeOver 58 = .ok (.iload_n 2, 1) := by decide +kernel
theorem dX1_takeOver_59 : decode cX1_takeOver 59 = .ok (.iaload, 1) := by decide +kernel
theorem dX1_takeOver_60 : decode cX1_takeOver 60 = .ok (.ior, 1) := by decide +kernel
theorem dX1_takeOver_61 : decode cX1_takeOver 61 = .ok (.iastore, 1) := by decide +kernel
theorem dX1_takeOver_62 : decode cX1_takeOver 62 = .ok (.aload_n 0, 1) := by decide +kernel
theorem dX1_takeOver_63 : decode cX1_takeOver 63 = .ok (.getfield 7, 3) := by decide +kernel
theorem dX1_takeOver_66 : decode cX1_takeOver 66 = .ok (.iload_n 2, 1) := by decide +kernel
theorem dX1_takeOver_67 : decode cX1_takeOver 67 = .ok (.iconst 0, 1) := by decide +kernel
theorem dX1_takeOver_68 : decode cX1_takeOver 68 = .ok (.iastore, 1) := by decide +kernel
theorem dX1_takeOver_69 : decode cX1_takeOver 69 = .ok (.iload_n 3, 1) := by decide +kernel
theorem dX1_takeOver_70 : decode cX1_takeOver 70 = .ok (.ireturn, 1) := by decide +kernel
abbrev cX1_liveIn : ByteArray := prog_3_method_15_code
def yX1_liveIn : MethodName := ⟨RX1, "liveIn", "(I)I"⟩
theorem dX1_liveIn_0 : decode cX1_liveIn 0 = .ok (.aload_n 0, 1) := by decide +kernel
theorem dX1_liveIn_1 : decode cX1_liveIn 1 = .ok (.iload_n 1, 1) := by decide +kernel
theorem dX1_liveIn_2 : decode cX1_liveIn 2 = .ok (.invokevirtual 26, 3) := by decide +kernel
theorem dX1_liveIn_5 : decode cX1_liveIn 5 = .ok (.ifCond .ne 5, 3) := by decide +kernel
theorem dX1_liveIn_8 : decode cX1_liveIn 8 = .ok (.iconst (-1), 1) := by decide +kernel
theorem dX1_liveIn_9 : decode cX1_liveIn 9 = .ok (.ireturn, 1) := by decide +kernel
theorem dX1_liveIn_10 : decode cX1_liveIn 10 = .ok (.aload_n 0, 1) := by decide +kernel
theorem dX1_liveIn_11 : decode cX1_liveIn 11 = .ok (.invokevirtual 41, 3) := by decide +kernel
theorem dX1_liveIn_14 : decode cX1_liveIn 14 = .ok (.aload_n 0, 1) := by decide +kernel
theorem dX1_liveIn_15 : decode cX1_liveIn 15 = .ok (.getfield 19, 3) := by decide +kernel
theorem dX1_liveIn_18 : decode cX1_liveIn 18 = .ok (.iload_n 1, 1) := by decide +kernel
theorem dX1_liveIn_19 : decode cX1_liveIn 19 = .ok (.iaload, 1) := by decide +kernel
theorem dX1_liveIn_20 : decode cX1_liveIn 20 = .ok (.ireturn, 1) := by decide +kernel
abbrev cX1_spread : ByteArray := prog_3_method_14_code
def yX1_spread : MethodName := ⟨RX1, "spread", "()V"⟩
theorem dX1_spread_0 : decode cX1_spread 0 = .ok (.iconst 0, 1) := by decide +kernel
theorem dX1_spread_1 : decode cX1_spread 1 = .ok (.istore_n 1, 1) := by decide +kernel
theorem dX1_spread_2 : decode cX1_spread 2 = .ok (.iload_n 1, 1) := by decide +kernel
theorem dX1_spread_3 : decode cX1_spread 3 = .ok (.bipush 12, 2) := by decide +kernel
theorem dX1_spread_5 : decode cX1_spread 5 = .ok (.if_icmp .ge 21, 3) := by decide +kernel
theorem dX1_spread_8 : decode cX1_spread 8 = .ok (.aload_n 0, 1) := by decide +kernel
theorem dX1_spread_9 : decode cX1_spread 9 = .ok (.getfield 19, 3) := by decide +kernel
theorem dX1_spread_12 : decode cX1_spread 12 = .ok (.iload_n 1, 1) := by decide +kernel
theorem dX1_spread_13 : decode cX1_spread 13 = .ok (.aload_n 0, 1) := by decide +kernel
theorem dX1_spread_14 : decode cX1_spread 14 = .ok (.getfield 13, 3) := by decide +kernel
theorem dX1_spread_17 : decode cX1_spread 17 = .ok (.iload_n 1, 1) := by decide +kernel
theorem dX1_spread_18 : decode cX1_spread 18 = .ok (.iaload, 1) := by decide +kernel
theorem dX1_spread_19 : decode cX1_spread 19 = .ok (.iastore, 1) := by decide +kernel
theorem dX1_spread_20 : decode cX1_spread 20 = .ok (.iinc 1 1, 3) := by decide +kernel
theorem dX1_spread_23 : decode cX1_spread 23 = .ok (.goto (-21), 3) := by decide +kernel
theorem dX1_spread_26 : decode cX1_spread 26 = .ok (.iconst 0, 1) := by decide +kernel
theorem dX1_spread_27 : decode cX1_spread 27 = .ok (.istore_n 1, 1) := by decide +kernel
theorem dX1_spread_28 : decode cX1_spread 28 = .ok (.iload_n 1, 1) := by decide +kernel
theorem dX1_spread_29 : decode cX1_spread 29 = .ok (.bipush 12, 2) := by decide +kernel
theorem dX1_spread_31 : decode cX1_spread 31 = .ok (.if_icmp .ge 50, 3) := by decide +kernel
theorem dX1_spread_34 : decode cX1_spread 34 = .ok (.iconst 0, 1) := by decide +kernel
theorem dX1_spread_35 : decode cX1_spread 35 = .ok (.istore_n 2, 1) := by decide +kernel
theorem dX1_spread_36 : decode cX1_spread 36 = .ok (.iload_n 2, 1) := by decide +kernel
theorem dX1_spread_37 : decode cX1_spread 37 = .ok (.bipush 12, 2) := by decide +kernel
theorem dX1_spread_39 : decode cX1_spread 39 = .ok (.if_icmp .ge 36, 3) := by decide +kernel
theorem dX1_spread_42 : decode cX1_spread 42 = .ok (.aload_n 0, 1) := by decide +kernel
theorem dX1_spread_43 : decode cX1_spread 43 = .ok (.getfield 19, 3) := by decide +kernel
theorem dX1_spread_46 : decode cX1_spread 46 = .ok (.iload_n 2, 1) := by decide +kernel
theorem dX1_spread_47 : decode cX1_spread 47 = .ok (.aload_n 0, 1) := by decide +kernel
theorem dX1_spread_48 : decode cX1_spread 48 = .ok (.getfield 19, 3) := by decide +kernel
theorem dX1_spread_51 : decode cX1_spread 51 = .ok (.iload_n 2, 1) := by decide +kernel
theorem dX1_spread_52 : decode cX1_spread 52 = .ok (.iaload, 1) := by decide +kernel
theorem dX1_spread_53 : decode cX1_spread 53 = .ok (.aload_n 0, 1) := by decide +kernel
theorem dX1_spread_54 : decode cX1_spread 54 = .ok (.iload_n 2, 1) := by decide +kernel
theorem dX1_spread_55 : decode cX1_spread 55 = .ok (.invokevirtual 38, 3) := by decide +kernel
theorem dX1_spread_58 : decode cX1_spread 58 = .ok (.aload_n 0, 1) := by decide +kernel
theorem dX1_spread_59 : decode cX1_spread 59 = .ok (.getfield 16, 3) := by decide +kernel
theorem dX1_spread_62 : decode cX1_spread 62 = .ok (.iload_n 2, 1) := by decide +kernel
theorem dX1_spread_63 : decode cX1_spread 63 = .ok (.iaload, 1) := by decide +kernel
theorem dX1_spread_64 : decode cX1_spread 64 = .ok (.iconst (-1), 1) := by decide +kernel
theorem dX1_spread_65 : decode cX1_spread 65 = .ok (.ixor, 1) := by decide +kernel
theorem dX1_spread_66 : decode cX1_spread 66 = .ok (.iand, 1) := by decide +kernel
theorem dX1_spread_67 : decode cX1_spread 67 = .ok (.ior, 1) := by decide +kernel
theorem dX1_spread_68 : decode cX1_spread 68 = .ok (.iastore, 1) := by decide +kernel
theorem dX1_spread_69 : decode cX1_spread 69 = .ok (.iinc 2 1, 3) := by decide +kernel
theorem dX1_spread_72 : decode cX1_spread 72 = .ok (.goto (-36), 3) := by decide +kernel
theorem dX1_spread_75 : decode cX1_spread 75 = .ok (.iinc 1 1, 3) := by decide +kernel
theorem dX1_spread_78 : decode cX1_spread 78 = .ok (.goto (-50), 3) := by decide +kernel
theorem dX1_spread_81 : decode cX1_spread 81 = .ok (.return_, 1) := by decide +kernel
abbrev cX1_behind : ByteArray := prog_3_method_13_code
def yX1_behind : MethodName := ⟨RX1, "behind", "(I)I"⟩
theorem dX1_behind_0 : decode cX1_behind 0 = .ok (.iconst 0, 1) := by decide +kernel
theorem dX1_behind_1 : decode cX1_behind 1 = .ok (.istore_n 2, 1) := by decide +kernel
theorem dX1_behind_2 : decode cX1_behind 2 = .ok (.iconst 0, 1) := by decide +kernel
theorem dX1_behind_3 : decode cX1_behind 3 = .ok (.istore_n 3, 1) := by decide +kernel
theorem dX1_behind_4 : decode cX1_behind 4 = .ok (.iload_n 3, 1) := by decide +kernel
theorem dX1_behind_5 : decode cX1_behind 5 = .ok (.bipush 12, 2) := by decide +kernel
theorem dX1_behind_7 : decode cX1_behind 7 = .ok (.if_icmp .ge 36, 3) := by decide +kernel
theorem dX1_behind_10 : decode cX1_behind 10 = .ok (.aload_n 0, 1) := by decide +kernel
theorem dX1_behind_11 : decode cX1_behind 11 = .ok (.aload_n 0, 1) := by decide +kernel
theorem dX1_behind_12 : decode cX1_behind 12 = .ok (.getfield 7, 3) := by decide +kernel
theorem dX1_behind_15 : decode cX1_behind 15 = .ok (.iload_n 1, 1) := by decide +kernel
theorem dX1_behind_16 : decode cX1_behind 16 = .ok (.iaload, 1) := by decide +kernel
theorem dX1_behind_17 : decode cX1_behind 17 = .ok (.iload_n 3, 1) := by decide +kernel
theorem dX1_behind_18 : decode cX1_behind 18 = .ok (.invokevirtual 22, 3) := by decide +kernel
theorem dX1_behind_21 : decode cX1_behind 21 = .ok (.ifCond .eq 14, 3) := by decide +kernel
theorem dX1_behind_24 : decode cX1_behind 24 = .ok (.iload_n 2, 1) := by decide +kernel
theorem dX1_behind_25 : decode cX1_behind 25 = .ok (.aload_n 0, 1) := by decide +kernel
theorem dX1_behind_26 : decode cX1_behind 26 = .ok (.getfield 19, 3) := by decide +kernel
theorem dX1_behind_29 : decode cX1_behind 29 = .ok (.iload_n 3, 1) := by decide +kernel
theorem dX1_behind_30 : decode cX1_behind 30 = .ok (.iaload, 1) := by decide +kernel
theorem dX1_behind_31 : decode cX1_behind 31 = .ok (.ior, 1) := by decide +kernel
theorem dX1_behind_32 : decode cX1_behind 32 = .ok (.goto 4, 3) := by decide +kernel
theorem dX1_behind_35 : decode cX1_behind 35 = .ok (.iload_n 2, 1) := by decide +kernel
theorem dX1_behind_36 : decode cX1_behind 36 = .ok (.istore_n 2, 1) := by decide +kernel
theorem dX1_behind_37 : decode cX1_behind 37 = .ok (.iinc 3 1, 3) := by decide +kernel
theorem dX1_behind_40 : decode cX1_behind 40 = .ok (.goto (-36), 3) := by decide +kernel
theorem dX1_behind_43 : decode cX1_behind 43 = .ok (.iload_n 2, 1) := by decide +kernel
theorem dX1_behind_44 : decode cX1_behind 44 = .ok (.ireturn, 1) := by decide +kernel
abbrev cX1_liveOut : ByteArray := prog_3_method_16_code
def yX1_liveOut : MethodName := ⟨RX1, "liveOut", "(I)I"⟩
theorem dX1_liveOut_0 : decode cX1_liveOut 0 = .ok (.aload_n 0, 1) := by decide +kernel
theorem dX1_liveOut_1 : decode cX1_liveOut 1 = .ok (.iload_n 1, 1) := by decide +kernel
theorem dX1_liveOut_2 : decode cX1_liveOut 2 = .ok (.invokevirtual 26, 3) := by decide +kernel
theorem dX1_liveOut_5 : decode cX1_liveOut 5 = .ok (.ifCond .ne 5, 3) := by decide +kernel
theorem dX1_liveOut_8 : decode cX1_liveOut 8 = .ok (.iconst (-1), 1) := by decide +kernel
theorem dX1_liveOut_9 : decode cX1_liveOut 9 = .ok (.ireturn, 1) := by decide +kernel
theorem dX1_liveOut_10 : decode cX1_liveOut 10 = .ok (.aload_n 0, 1) := by decide +kernel
theorem dX1_liveOut_11 : decode cX1_liveOut 11 = .ok (.invokevirtual 41, 3) := by decide +kernel
theorem dX1_liveOut_14 : decode cX1_liveOut 14 = .ok (.aload_n 0, 1) := by decide +kernel
theorem dX1_liveOut_15 : decode cX1_liveOut 15 = .ok (.iload_n 1, 1) := by decide +kernel
theorem dX1_liveOut_16 : decode cX1_liveOut 16 = .ok (.invokevirtual 38, 3) := by decide +kernel
theorem dX1_liveOut_19 : decode cX1_liveOut 19 = .ok (.ireturn, 1) := by decide +kernel
abbrev cX1_liveBlocks : ByteArray := prog_3_method_17_code
def yX1_liveBlocks : MethodName := ⟨RX1, "liveBlocks", "(I)I"⟩
theorem dX1_liveBlocks_0 : decode cX1_liveBlocks 0 = .ok (.aload_n 0, 1) := by decide +kernel
theorem dX1_liveBlocks_1 : decode cX1_liveBlocks 1 = .ok (.iload_n 1, 1) := by decide +kernel
theorem dX1_liveBlocks_2 : decode cX1_liveBlocks 2 = .ok (.invokevirtual 30, 3) := by decide +kernel
theorem dX1_liveBlocks_5 : decode cX1_liveBlocks 5 = .ok (.ifCond .ne 5, 3) := by decide +kernel
theorem dX1_liveBlocks_8 : decode cX1_liveBlocks 8 = .ok (.iconst (-1), 1) := by decide +kernel
theorem dX1_liveBlocks_9 : decode cX1_liveBlocks 9 = .ok (.ireturn, 1) := by decide +kernel
theorem dX1_liveBlocks_10 : decode cX1_liveBlocks 10 = .ok (.aload_n 0, 1) := by decide +kernel
theorem dX1_liveBlocks_11 : decode cX1_liveBlocks 11 = .ok (.invokevirtual 41, 3) := by decide +kernel
theorem dX1_liveBlocks_14 : decode cX1_liveBlocks 14 = .ok (.iconst 0, 1) := by decide +kernel
theorem dX1_liveBlocks_15 : decode cX1_liveBlocks 15 = .ok (.istore_n 2, 1) := by decide +kernel
theorem dX1_liveBlocks_16 : decode cX1_liveBlocks 16 = .ok (.iconst 0, 1) := by decide +kernel
theorem dX1_liveBlocks_17 : decode cX1_liveBlocks 17 = .ok (.istore_n 3, 1) := by decide +kernel
theorem dX1_liveBlocks_18 : decode cX1_liveBlocks 18 = .ok (.iload_n 3, 1) := by decide +kernel
theorem dX1_liveBlocks_19 : decode cX1_liveBlocks 19 = .ok (.bipush 12, 2) := by decide +kernel
theorem dX1_liveBlocks_21 : decode cX1_liveBlocks 21 = .ok (.if_icmp .ge 33, 3) := by decide +kernel
theorem dX1_liveBlocks_24 : decode cX1_liveBlocks 24 = .ok (.aload_n 0, 1) := by decide +kernel
theorem dX1_liveBlocks_25 : decode cX1_liveBlocks 25 = .ok (.aload_n 0, 1) := by decide +kernel
theorem dX1_liveBlocks_26 : decode cX1_liveBlocks 26 = .ok (.getfield 19, 3) := by decide +kernel
theorem dX1_liveBlocks_29 : decode cX1_liveBlocks 29 = .ok (.iload_n 3, 1) := by decide +kernel
theorem dX1_liveBlocks_30 : decode cX1_liveBlocks 30 = .ok (.iaload, 1) := by decide +kernel
theorem dX1_liveBlocks_31 : decode cX1_liveBlocks 31 = .ok (.iload_n 1, 1) := by decide +kernel
theorem dX1_liveBlocks_32 : decode cX1_liveBlocks 32 = .ok (.invokevirtual 22, 3) := by decide +kernel
theorem dX1_liveBlocks_35 : decode cX1_liveBlocks 35 = .ok (.ifCond .eq 11, 3) := by decide +kernel
theorem dX1_liveBlocks_38 : decode cX1_liveBlocks 38 = .ok (.iload_n 2, 1) := by decide +kernel
theorem dX1_liveBlocks_39 : decode cX1_liveBlocks 39 = .ok (.iconst 1, 1) := by decide +kernel
theorem dX1_liveBlocks_40 : decode cX1_liveBlocks 40 = .ok (.iload_n 3, 1) := by decide +kernel
theorem dX1_liveBlocks_41 : decode cX1_liveBlocks 41 = .ok (.ishl, 1) := by decide +kernel
theorem dX1_liveBlocks_42 : decode cX1_liveBlocks 42 = .ok (.ior, 1) := by decide +kernel
theorem dX1_liveBlocks_43 : decode cX1_liveBlocks 43 = .ok (.goto 4, 3) := by decide +kernel
theorem dX1_liveBlocks_46 : decode cX1_liveBlocks 46 = .ok (.iload_n 2, 1) := by decide +kernel
theorem dX1_liveBlocks_47 : decode cX1_liveBlocks 47 = .ok (.istore_n 2, 1) := by decide +kernel
theorem dX1_liveBlocks_48 : decode cX1_liveBlocks 48 = .ok (.iinc 3 1, 3) := by decide +kernel
theorem dX1_liveBlocks_51 : decode cX1_liveBlocks 51 = .ok (.goto (-33), 3) := by decide +kernel
theorem dX1_liveBlocks_54 : decode cX1_liveBlocks 54 = .ok (.iload_n 2, 1) := by decide +kernel
theorem dX1_liveBlocks_55 : decode cX1_liveBlocks 55 = .ok (.ireturn, 1) := by decide +kernel
abbrev cX1_idleSets : ByteArray := prog_3_method_18_code
def yX1_idleSets : MethodName := ⟨RX1, "idleSets", "()I"⟩
theorem dX1_idleSets_0 : decode cX1_idleSets 0 = .ok (.aload_n 0, 1) := by decide +kernel
theorem dX1_idleSets_1 : decode cX1_idleSets 1 = .ok (.invokevirtual 41, 3) := by decide +kernel
theorem dX1_idleSets_4 : decode cX1_idleSets 4 = .ok (.iconst 0, 1) := by decide +kernel
theorem dX1_idleSets_5 : decode cX1_idleSets 5 = .ok (.istore_n 1, 1) := by decide +kernel
theorem dX1_idleSets_6 : decode cX1_idleSets 6 = .ok (.iconst 0, 1) := by decide +kernel
theorem dX1_idleSets_7 : decode cX1_idleSets 7 = .ok (.istore_n 2, 1) := by decide +kernel
theorem dX1_idleSets_8 : decode cX1_idleSets 8 = .ok (.iload_n 2, 1) := by decide +kernel
theorem dX1_idleSets_9 : decode cX1_idleSets 9 = .ok (.bipush 12, 2) := by decide +kernel
theorem dX1_idleSets_11 : decode cX1_idleSets 11 = .ok (.if_icmp .ge 32, 3) := by decide +kernel
theorem dX1_idleSets_14 : decode cX1_idleSets 14 = .ok (.aload_n 0, 1) := by decide +kernel
theorem dX1_idleSets_15 : decode cX1_idleSets 15 = .ok (.iload_n 2, 1) := by decide +kernel
theorem dX1_idleSets_16 : decode cX1_idleSets 16 = .ok (.invokevirtual 38, 3) := by decide +kernel
theorem dX1_idleSets_19 : decode cX1_idleSets 19 = .ok (.istore_n 3, 1) := by decide +kernel
theorem dX1_idleSets_20 : decode cX1_idleSets 20 = .ok (.iload_n 1, 1) := by decide +kernel
theorem dX1_idleSets_21 : decode cX1_idleSets 21 = .ok (.aload_n 0, 1) := by decide +kernel
theorem dX1_idleSets_22 : decode cX1_idleSets 22 = .ok (.aload_n 0, 1) := by decide +kernel
theorem dX1_idleSets_23 : decode cX1_idleSets 23 = .ok (.getfield 16, 3) := by decide +kernel
theorem dX1_idleSets_26 : decode cX1_idleSets 26 = .ok (.iload_n 2, 1) := by decide +kernel
theorem dX1_idleSets_27 : decode cX1_idleSets 27 = .ok (.iaload, 1) := by decide +kernel
theorem dX1_idleSets_28 : decode cX1_idleSets 28 = .ok (.iload_n 3, 1) := by decide +kernel
theorem dX1_idleSets_29 : decode cX1_idleSets 29 = .ok (.iconst (-1), 1) := by decide +kernel
theorem dX1_idleSets_30 : decode cX1_idleSets 30 = .ok (.ixor, 1) := by decide +kernel
theorem dX1_idleSets_31 : decode cX1_idleSets 31 = .ok (.iand, 1) := by decide +kernel
theorem dX1_idleSets_32 : decode cX1_idleSets 32 = .ok (.invokevirtual 34, 3) := by decide +kernel
theorem dX1_idleSets_35 : decode cX1_idleSets 35 = .ok (.iadd, 1) := by decide +kernel
theorem dX1_idleSets_36 : decode cX1_idleSets 36 = .ok (.istore_n 1, 1) := by decide +kernel
theorem dX1_idleSets_37 : decode cX1_idleSets 37 = .ok (.iinc 2 1, 3) := by decide +kernel
theorem dX1_idleSets_40 : decode cX1_idleSets 40 = .ok (.goto (-32), 3) := by decide +kernel
theorem dX1_idleSets_43 : decode cX1_idleSets 43 = .ok (.iload_n 1, 1) := by decide +kernel
theorem dX1_idleSets_44 : decode cX1_idleSets 44 = .ok (.ireturn, 1) := by decide +kernel
abbrev cX1_pressure : ByteArray := prog_3_method_19_code
def yX1_pressure : MethodName := ⟨RX1, "pressure", "()I"⟩
theorem dX1_pressure_0 : decode cX1_pressure 0 = .ok (.aload_n 0, 1) := by decide +kernel
theorem dX1_pressure_1 : decode cX1_pressure 1 = .ok (.invokevirtual 41, 3) := by decide +kernel
theorem dX1_pressure_4 : decode cX1_pressure 4 = .ok (.iconst 0, 1) := by decide +kernel
theorem dX1_pressure_5 : decode cX1_pressure 5 = .ok (.istore_n 1, 1) := by decide +kernel
theorem dX1_pressure_6 : decode cX1_pressure 6 = .ok (.iconst 0, 1) := by decide +kernel
theorem dX1_pressure_7 : decode cX1_pressure 7 = .ok (.istore_n 2, 1) := by decide +kernel
theorem dX1_pressure_8 : decode cX1_pressure 8 = .ok (.iload_n 2, 1) := by decide +kernel
theorem dX1_pressure_9 : decode cX1_pressure 9 = .ok (.bipush 12, 2) := by decide +kernel
theorem dX1_pressure_11 : decode cX1_pressure 11 = .ok (.if_icmp .ge 31, 3) := by decide +kernel
theorem dX1_pressure_14 : decode cX1_pressure 14 = .ok (.aload_n 0, 1) := by decide +kernel
theorem dX1_pressure_15 : decode cX1_pressure 15 = .ok (.aload_n 0, 1) := by decide +kernel
theorem dX1_pressure_16 : decode cX1_pressure 16 = .ok (.getfield 19, 3) := by decide +kernel
theorem dX1_pressure_19 : decode cX1_pressure 19 = .ok (.iload_n 2, 1) := by decide +kernel
theorem dX1_pressure_20 : decode cX1_pressure 20 = .ok (.iaload, 1) := by decide +kernel
theorem dX1_pressure_21 : decode cX1_pressure 21 = .ok (.invokevirtual 34, 3) := by decide +kernel
theorem dX1_pressure_24 : decode cX1_pressure 24 = .ok (.istore_n 3, 1) := by decide +kernel
theorem dX1_pressure_25 : decode cX1_pressure 25 = .ok (.iload_n 3, 1) := by decide +kernel
theorem dX1_pressure_26 : decode cX1_pressure 26 = .ok (.iload_n 1, 1) := by decide +kernel
theorem dX1_pressure_27 : decode cX1_pressure 27 = .ok (.if_icmp .le 7, 3) := by decide +kernel
theorem dX1_pressure_30 : decode cX1_pressure 30 = .ok (.iload_n 3, 1) := by decide +kernel
theorem dX1_pressure_31 : decode cX1_pressure 31 = .ok (.goto 4, 3) := by decide +kernel
theorem dX1_pressure_34 : decode cX1_pressure 34 = .ok (.iload_n 1, 1) := by decide +kernel
theorem dX1_pressure_35 : decode cX1_pressure 35 = .ok (.istore_n 1, 1) := by decide +kernel
theorem dX1_pressure_36 : decode cX1_pressure 36 = .ok (.iinc 2 1, 3) := by decide +kernel
theorem dX1_pressure_39 : decode cX1_pressure 39 = .ok (.goto (-31), 3) := by decide +kernel
theorem dX1_pressure_42 : decode cX1_pressure 42 = .ok (.iload_n 1, 1) := by decide +kernel
theorem dX1_pressure_43 : decode cX1_pressure 43 = .ok (.ireturn, 1) := by decide +kernel
abbrev cX1_reaching : ByteArray := prog_3_method_21_code
def yX1_reaching : MethodName := ⟨RX1, "reaching", "(II)I"⟩
theorem dX1_reaching_0 : decode cX1_reaching 0 = .ok (.aload_n 0, 1) := by decide +kernel
theorem dX1_reaching_1 : decode cX1_reaching 1 = .ok (.iload_n 1, 1) := by decide +kernel
theorem dX1_reaching_2 : decode cX1_reaching 2 = .ok (.invokevirtual 26, 3) := by decide +kernel
theorem dX1_reaching_5 : decode cX1_reaching 5 = .ok (.ifCond .eq 11, 3) := by decide +kernel
theorem dX1_reaching_8 : decode cX1_reaching 8 = .ok (.aload_n 0, 1) := by decide +kernel
theorem dX1_reaching_9 : decode cX1_reaching 9 = .ok (.iload_n 2, 1) := by decide +kernel
theorem dX1_reaching_10 : decode cX1_reaching 10 = .ok (.invokevirtual 30, 3) := by decide +kernel
theorem dX1_reaching_13 : decode cX1_reaching 13 = .ok (.ifCond .ne 5, 3) := by decide +kernel
theorem dX1_reaching_16 : decode cX1_reaching 16 = .ok (.iconst (-1), 1) := by decide +kernel
theorem dX1_reaching_17 : decode cX1_reaching 17 = .ok (.ireturn, 1) := by decide +kernel
theorem dX1_reaching_18 : decode cX1_reaching 18 = .ok (.iconst 0, 1) := by decide +kernel
theorem dX1_reaching_19 : decode cX1_reaching 19 = .ok (.istore_n 3, 1) := by decide +kernel
theorem dX1_reaching_20 : decode cX1_reaching 20 = .ok (.iconst 0, 1) := by decide +kernel
theorem dX1_reaching_21 : decode cX1_reaching 21 = .ok (.istore 4, 2) := by decide +kernel
theorem dX1_reaching_23 : decode cX1_reaching 23 = .ok (.iload 4, 2) := by decide +kernel
theorem dX1_reaching_25 : decode cX1_reaching 25 = .ok (.bipush 12, 2) := by decide +kernel
theorem dX1_reaching_27 : decode cX1_reaching 27 = .ok (.if_icmp .ge 54, 3) := by decide +kernel
theorem dX1_reaching_30 : decode cX1_reaching 30 = .ok (.aload_n 0, 1) := by decide +kernel
theorem dX1_reaching_31 : decode cX1_reaching 31 = .ok (.iload 4, 2) := by decide +kernel
theorem dX1_reaching_33 : decode cX1_reaching 33 = .ok (.iload_n 2, 1) := by decide +kernel
theorem dX1_reaching_34 : decode cX1_reaching 34 = .ok (.invokevirtual 44, 3) := by decide +kernel
theorem dX1_reaching_37 : decode cX1_reaching 37 = .ok (.istore 5, 2) := by decide +kernel
theorem dX1_reaching_39 : decode cX1_reaching 39 = .ok (.aload_n 0, 1) := by decide +kernel
theorem dX1_reaching_40 : decode cX1_reaching 40 = .ok (.aload_n 0, 1) := by decide +kernel
theorem dX1_reaching_41 : decode cX1_reaching 41 = .ok (.getfield 16, 3) := by decide +kernel
theorem dX1_reaching_44 : decode cX1_reaching 44 = .ok (.iload 4, 2) := by decide +kernel
theorem dX1_reaching_46 : decode cX1_reaching 46 = .ok (.iaload, 1) := by decide +kernel
theorem dX1_reaching_47 : decode cX1_reaching 47 = .ok (.iload_n 2, 1) := by decide +kernel
theorem dX1_reaching_48 : decode cX1_reaching 48 = .ok (.invokevirtual 22, 3) := by decide +kernel
theorem dX1_reaching_51 : decode cX1_reaching 51 = .ok (.ifCond .eq 22, 3) := by decide +kernel
theorem dX1_reaching_54 : decode cX1_reaching 54 = .ok (.aload_n 0, 1) := by decide +kernel
theorem dX1_reaching_55 : decode cX1_reaching 55 = .ok (.iload 5, 2) := by decide +kernel
theorem dX1_reaching_57 : decode cX1_reaching 57 = .ok (.iload_n 1, 1) := by decide +kernel
theorem dX1_reaching_58 : decode cX1_reaching 58 = .ok (.invokevirtual 22, 3) := by decide +kernel
theorem dX1_reaching_61 : decode cX1_reaching 61 = .ok (.ifCond .eq 12, 3) := by decide +kernel
theorem dX1_reaching_64 : decode cX1_reaching 64 = .ok (.iload_n 3, 1) := by decide +kernel
theorem dX1_reaching_65 : decode cX1_reaching 65 = .ok (.iconst 1, 1) := by decide +kernel
theorem dX1_reaching_66 : decode cX1_reaching 66 = .ok (.iload 4, 2) := by decide +kernel
theorem dX1_reaching_68 : decode cX1_reaching 68 = .ok (.ishl, 1) := by decide +kernel
theorem dX1_reaching_69 : decode cX1_reaching 69 = .ok (.ior, 1) := by decide +kernel
theorem dX1_reaching_70 : decode cX1_reaching 70 = .ok (.goto 4, 3) := by decide +kernel
theorem dX1_reaching_73 : decode cX1_reaching 73 = .ok (.iload_n 3, 1) := by decide +kernel
theorem dX1_reaching_74 : decode cX1_reaching 74 = .ok (.istore_n 3, 1) := by decide +kernel
theorem dX1_reaching_75 : decode cX1_reaching 75 = .ok (.iinc 4 1, 3) := by decide +kernel
theorem dX1_reaching_78 : decode cX1_reaching 78 = .ok (.goto (-55), 3) := by decide +kernel
theorem dX1_reaching_81 : decode cX1_reaching 81 = .ok (.iload_n 3, 1) := by decide +kernel
theorem dX1_reaching_82 : decode cX1_reaching 82 = .ok (.ireturn, 1) := by decide +kernel
abbrev cX1_far : ByteArray := prog_3_method_20_code
def yX1_far : MethodName := ⟨RX1, "far", "(II)I"⟩
theorem dX1_far_0 : decode cX1_far 0 = .ok (.aload_n 0, 1) := by decide +kernel
theorem dX1_far_1 : decode cX1_far 1 = .ok (.getfield 7, 3) := by decide +kernel
theorem dX1_far_4 : decode cX1_far 4 = .ok (.iload_n 1, 1) := by decide +kernel
theorem dX1_far_5 : decode cX1_far 5 = .ok (.iaload, 1) := by decide +kernel
theorem dX1_far_6 : decode cX1_far 6 = .ok (.istore_n 3, 1) := by decide +kernel
theorem dX1_far_7 : decode cX1_far 7 = .ok (.iconst 0, 1) := by decide +kernel
theorem dX1_far_8 : decode cX1_far 8 = .ok (.istore 4, 2) := by decide +kernel
theorem dX1_far_10 : decode cX1_far 10 = .ok (.iload 4, 2) := by decide +kernel
theorem dX1_far_12 : decode cX1_far 12 = .ok (.bipush 12, 2) := by decide +kernel
theorem dX1_far_14 : decode cX1_far 14 = .ok (.if_icmp .ge 64, 3) := by decide +kernel
theorem dX1_far_17 : decode cX1_far 17 = .ok (.iconst 0, 1) := by decide +kernel
theorem dX1_far_18 : decode cX1_far 18 = .ok (.istore 5, 2) := by decide +kernel
theorem dX1_far_20 : decode cX1_far 20 = .ok (.iload 5, 2) := by decide +kernel
theorem dX1_far_22 : decode cX1_far 22 = .ok (.bipush 12, 2) := by decide +kernel
theorem dX1_far_24 : decode cX1_far 24 = .ok (.if_icmp .ge 48, 3) := by decide +kernel
theorem dX1_far_27 : decode cX1_far 27 = .ok (.aload_n 0, 1) := by decide +kernel
theorem dX1_far_28 : decode cX1_far 28 = .ok (.iload_n 3, 1) := by decide +kernel
theorem dX1_far_29 : decode cX1_far 29 = .ok (.iload 5, 2) := by decide +kernel
theorem dX1_far_31 : decode cX1_far 31 = .ok (.invokevirtual 22, 3) := by decide +kernel
theorem dX1_far_34 : decode cX1_far 34 = .ok (.ifCond .eq 30, 3) := by decide +kernel
theorem dX1_far_37 : decode cX1_far 37 = .ok (.aload_n 0, 1) := by decide +kernel
theorem dX1_far_38 : decode cX1_far 38 = .ok (.aload_n 0, 1) := by decide +kernel
theorem dX1_far_39 : decode cX1_far 39 = .ok (.getfield 16, 3) := by decide +kernel
theorem dX1_far_42 : decode cX1_far 42 = .ok (.iload 5, 2) := by decide +kernel
theorem dX1_far_44 : decode cX1_far 44 = .ok (.iaload, 1) := by decide +kernel
theorem dX1_far_45 : decode cX1_far 45 = .ok (.iload_n 2, 1) := by decide +kernel
theorem dX1_far_46 : decode cX1_far 46 = .ok (.invokevirtual 22, 3) := by decide +kernel
theorem dX1_far_49 : decode cX1_far 49 = .ok (.ifCond .ne 15, 3) := by decide +kernel
theorem dX1_far_52 : decode cX1_far 52 = .ok (.iload_n 3, 1) := by decide +kernel
theorem dX1_far_53 : decode cX1_far 53 = .ok (.aload_n 0, 1) := by decide +kernel
theorem dX1_far_54 : decode cX1_far 54 = .ok (.getfield 7, 3) := by decide +kernel
theorem dX1_far_57 : decode cX1_far 57 = .ok (.iload 5, 2) := by decide +kernel
theorem dX1_far_59 : decode cX1_far 59 = .ok (.iaload, 1) := by decide +kernel
theorem dX1_far_60 : decode cX1_far 60 = .ok (.ior, 1) := by decide +kernel
theorem dX1_far_61 : decode cX1_far 61 = .ok (.goto 4, 3) := by decide +kernel
theorem dX1_far_64 : decode cX1_far 64 = .ok (.iload_n 3, 1) := by decide +kernel
theorem dX1_far_65 : decode cX1_far 65 = .ok (.istore_n 3, 1) := by decide +kernel
theorem dX1_far_66 : decode cX1_far 66 = .ok (.iinc 5 1, 3) := by decide +kernel
theorem dX1_far_69 : decode cX1_far 69 = .ok (.goto (-49), 3) := by decide +kernel
theorem dX1_far_72 : decode cX1_far 72 = .ok (.iinc 4 1, 3) := by decide +kernel
theorem dX1_far_75 : decode cX1_far 75 = .ok (.goto (-65), 3) := by decide +kernel
theorem dX1_far_78 : decode cX1_far 78 = .ok (.iload_n 3, 1) := by decide +kernel
theorem dX1_far_79 : decode cX1_far 79 = .ok (.ireturn, 1) := by decide +kernel
abbrev cX1_crowded : ByteArray := prog_3_method_23_code
def yX1_crowded : MethodName := ⟨RX1, "crowded", "()I"⟩
theorem dX1_crowded_0 : decode cX1_crowded 0 = .ok (.aload_n 0, 1) := by decide +kernel
theorem dX1_crowded_1 : decode cX1_crowded 1 = .ok (.invokevirtual 41, 3) := by decide +kernel
theorem dX1_crowded_4 : decode cX1_crowded 4 = .ok (.iconst 0, 1) := by decide +kernel
theorem dX1_crowded_5 : decode cX1_crowded 5 = .ok (.istore_n 1, 1) := by decide +kernel
theorem dX1_crowded_6 : decode cX1_crowded 6 = .ok (.iconst 0, 1) := by decide +kernel
theorem dX1_crowded_7 : decode cX1_crowded 7 = .ok (.istore_n 2, 1) := by decide +kernel
theorem dX1_crowded_8 : decode cX1_crowded 8 = .ok (.iload_n 2, 1) := by decide +kernel
theorem dX1_crowded_9 : decode cX1_crowded 9 = .ok (.bipush 20, 2) := by decide +kernel
theorem dX1_crowded_11 : decode cX1_crowded 11 = .ok (.if_icmp .ge 23, 3) := by decide +kernel
theorem dX1_crowded_14 : decode cX1_crowded 14 = .ok (.aload_n 0, 1) := by decide +kernel
theorem dX1_crowded_15 : decode cX1_crowded 15 = .ok (.iload_n 2, 1) := by decide +kernel
theorem dX1_crowded_16 : decode cX1_crowded 16 = .ok (.invokevirtual 48, 3) := by decide +kernel
theorem dX1_crowded_19 : decode cX1_crowded 19 = .ok (.istore_n 3, 1) := by decide +kernel
theorem dX1_crowded_20 : decode cX1_crowded 20 = .ok (.iload_n 1, 1) := by decide +kernel
theorem dX1_crowded_21 : decode cX1_crowded 21 = .ok (.aload_n 0, 1) := by decide +kernel
theorem dX1_crowded_22 : decode cX1_crowded 22 = .ok (.iload_n 3, 1) := by decide +kernel
theorem dX1_crowded_23 : decode cX1_crowded 23 = .ok (.invokevirtual 34, 3) := by decide +kernel
theorem dX1_crowded_26 : decode cX1_crowded 26 = .ok (.iadd, 1) := by decide +kernel
theorem dX1_crowded_27 : decode cX1_crowded 27 = .ok (.istore_n 1, 1) := by decide +kernel
theorem dX1_crowded_28 : decode cX1_crowded 28 = .ok (.iinc 2 1, 3) := by decide +kernel
theorem dX1_crowded_31 : decode cX1_crowded 31 = .ok (.goto (-23), 3) := by decide +kernel
theorem dX1_crowded_34 : decode cX1_crowded 34 = .ok (.iload_n 1, 1) := by decide +kernel
theorem dX1_crowded_35 : decode cX1_crowded 35 = .ok (.iconst 2, 1) := by decide +kernel
theorem dX1_crowded_36 : decode cX1_crowded 36 = .ok (.idiv, 1) := by decide +kernel
theorem dX1_crowded_37 : decode cX1_crowded 37 = .ok (.ireturn, 1) := by decide +kernel
abbrev cX1_besides : ByteArray := prog_3_method_22_code
def yX1_besides : MethodName := ⟨RX1, "besides", "(I)I"⟩
theorem dX1_besides_0 : decode cX1_besides 0 = .ok (.iconst 0, 1) := by decide +kernel
theorem dX1_besides_1 : decode cX1_besides 1 = .ok (.istore_n 2, 1) := by decide +kernel
theorem dX1_besides_2 : decode cX1_besides 2 = .ok (.iconst 0, 1) := by decide +kernel
theorem dX1_besides_3 : decode cX1_besides 3 = .ok (.istore_n 3, 1) := by decide +kernel
theorem dX1_besides_4 : decode cX1_besides 4 = .ok (.iload_n 3, 1) := by decide +kernel
theorem dX1_besides_5 : decode cX1_besides 5 = .ok (.bipush 12, 2) := by decide +kernel
theorem dX1_besides_7 : decode cX1_besides 7 = .ok (.if_icmp .ge 36, 3) := by decide +kernel
theorem dX1_besides_10 : decode cX1_besides 10 = .ok (.aload_n 0, 1) := by decide +kernel
theorem dX1_besides_11 : decode cX1_besides 11 = .ok (.aload_n 0, 1) := by decide +kernel
theorem dX1_besides_12 : decode cX1_besides 12 = .ok (.getfield 19, 3) := by decide +kernel
theorem dX1_besides_15 : decode cX1_besides 15 = .ok (.iload_n 3, 1) := by decide +kernel
theorem dX1_besides_16 : decode cX1_besides 16 = .ok (.iaload, 1) := by decide +kernel
theorem dX1_besides_17 : decode cX1_besides 17 = .ok (.iload_n 1, 1) := by decide +kernel
theorem dX1_besides_18 : decode cX1_besides 18 = .ok (.invokevirtual 22, 3) := by decide +kernel
theorem dX1_besides_21 : decode cX1_besides 21 = .ok (.ifCond .eq 14, 3) := by decide +kernel
theorem dX1_besides_24 : decode cX1_besides 24 = .ok (.iload_n 2, 1) := by decide +kernel
theorem dX1_besides_25 : decode cX1_besides 25 = .ok (.aload_n 0, 1) := by decide +kernel
theorem dX1_besides_26 : decode cX1_besides 26 = .ok (.getfield 19, 3) := by decide +kernel
theorem dX1_besides_29 : decode cX1_besides 29 = .ok (.iload_n 3, 1) := by decide +kernel
theorem dX1_besides_30 : decode cX1_besides 30 = .ok (.iaload, 1) := by decide +kernel
theorem dX1_besides_31 : decode cX1_besides 31 = .ok (.ior, 1) := by decide +kernel
theorem dX1_besides_32 : decode cX1_besides 32 = .ok (.goto 4, 3) := by decide +kernel
theorem dX1_besides_35 : decode cX1_besides 35 = .ok (.iload_n 2, 1) := by decide +kernel
theorem dX1_besides_36 : decode cX1_besides 36 = .ok (.istore_n 2, 1) := by decide +kernel
theorem dX1_besides_37 : decode cX1_besides 37 = .ok (.iinc 3 1, 3) := by decide +kernel
theorem dX1_besides_40 : decode cX1_besides 40 = .ok (.goto (-36), 3) := by decide +kernel
theorem dX1_besides_43 : decode cX1_besides 43 = .ok (.iload_n 2, 1) := by decide +kernel
theorem dX1_besides_44 : decode cX1_besides 44 = .ok (.iconst 1, 1) := by decide +kernel
theorem dX1_besides_45 : decode cX1_besides 45 = .ok (.iload_n 1, 1) := by decide +kernel
theorem dX1_besides_46 : decode cX1_besides 46 = .ok (.ishl, 1) := by decide +kernel
theorem dX1_besides_47 : decode cX1_besides 47 = .ok (.iconst (-1), 1) := by decide +kernel
theorem dX1_besides_48 : decode cX1_besides 48 = .ok (.ixor, 1) := by decide +kernel
theorem dX1_besides_49 : decode cX1_besides 49 = .ok (.iand, 1) := by decide +kernel
theorem dX1_besides_50 : decode cX1_besides 50 = .ok (.ireturn, 1) := by decide +kernel
theorem q21 : (Jvm.Cond.initialized "IncrLivenessModel") ∈ lw_all := lw_g (lw_at lw_m0 2 rfl) rfl
theorem q149 : (Jvm.Cond.instantiable "IncrLivenessModel" (4 : Nat)) ∈ lw_all := lw_g (lw_at lw_m0 130 rfl) rfl
theorem q151 : (Jvm.Cond.instanceMethod ({ cls := "IncrLivenessModel", name := "<init>", desc := "()V" } : Jvm.MethodName)) ∈ lw_all := lw_g (lw_at lw_m0 132 rfl) rfl
theorem q152 : (Jvm.Cond.code ({ cls := "IncrLivenessModel", name := "<init>", desc := "()V" } : Jvm.MethodName) prog_3_method_1_code (1 : Nat) (Option.none : Option Jvm.ClassFile.FieldType)) ∈ lw_all := lw_g (lw_at lw_m0 133 rfl) rfl
theorem q153 : (Jvm.Cond.methodLink "IncrLivenessModel" (1 : Nat) ({ cls := "java/lang/Object", name := "<init>", desc := "()V" } : Jvm.MethodName)) ∈ lw_all := lw_g (lw_at lw_m0 134 rfl) rfl
theorem q154 : (Jvm.Cond.fieldLink "IncrLivenessModel" (7 : Nat) "IncrLivenessModel" "next" "[I") ∈ lw_all := lw_g (lw_at lw_m0 135 rfl) rfl
theorem q155 : (Jvm.Cond.fieldLink "IncrLivenessModel" (13 : Nat) "IncrLivenessModel" "uses" "[I") ∈ lw_all := lw_g (lw_at lw_m0 136 rfl) rfl
theorem q156 : (Jvm.Cond.fieldLink "IncrLivenessModel" (16 : Nat) "IncrLivenessModel" "sets" "[I") ∈ lw_all := lw_g (lw_at lw_m0 137 rfl) rfl
theorem q157 : (Jvm.Cond.fieldLink "IncrLivenessModel" (19 : Nat) "IncrLivenessModel" "live" "[I") ∈ lw_all := lw_g (lw_at lw_m0 138 rfl) rfl
theorem q158 : (Jvm.Cond.laysFinal "IncrLivenessModel" "IncrLivenessModel" "next" "[I") ∈ lw_all := lw_g (lw_at lw_m0 139 rfl) rfl
theorem q159 : (Jvm.Cond.soleField "IncrLivenessModel" "next") ∈ lw_all := lw_g (lw_at lw_m0 140 rfl) rfl
theorem q160 : (Jvm.Cond.laysFinal "IncrLivenessModel" "IncrLivenessModel" "uses" "[I") ∈ lw_all := lw_g (lw_at lw_m0 141 rfl) rfl
theorem q161 : (Jvm.Cond.soleField "IncrLivenessModel" "uses") ∈ lw_all := lw_g (lw_at lw_m0 142 rfl) rfl
theorem q162 : (Jvm.Cond.laysFinal "IncrLivenessModel" "IncrLivenessModel" "sets" "[I") ∈ lw_all := lw_g (lw_at lw_m0 143 rfl) rfl
theorem q163 : (Jvm.Cond.soleField "IncrLivenessModel" "sets") ∈ lw_all := lw_g (lw_at lw_m0 144 rfl) rfl
theorem q164 : (Jvm.Cond.laysFinal "IncrLivenessModel" "IncrLivenessModel" "live" "[I") ∈ lw_all := lw_g (lw_at lw_m0 145 rfl) rfl
theorem q165 : (Jvm.Cond.soleField "IncrLivenessModel" "live") ∈ lw_all := lw_g (lw_at lw_m0 146 rfl) rfl
theorem q166 : (Jvm.Cond.superclass "IncrLivenessModel" "java/lang/Object") ∈ lw_all := lw_g (lw_at lw_m0 147 rfl) rfl
theorem q168 : (Jvm.Cond.instanceMethod ({ cls := "IncrLivenessModel", name := "arc", desc := "(III)I" } : Jvm.MethodName)) ∈ lw_all := lw_g (lw_at lw_m0 149 rfl) rfl
theorem q169 : (Jvm.Cond.selects "IncrLivenessModel" ({ cls := "IncrLivenessModel", name := "arc", desc := "(III)I" } : Jvm.MethodName) ({ cls := "IncrLivenessModel", name := "arc", desc := "(III)I" } : Jvm.MethodName)) ∈ lw_all := lw_g (lw_at lw_m0 150 rfl) rfl
theorem q170 : (Jvm.Cond.code ({ cls := "IncrLivenessModel", name := "arc", desc := "(III)I" } : Jvm.MethodName) prog_3_method_6_code (5 : Nat) (Option.some Jvm.ClassFile.FieldType.int)) ∈ lw_all := lw_g (lw_at lw_m0 151 rfl) rfl
theorem q171 : (Jvm.Cond.methodLink "IncrLivenessModel" (26 : Nat) ({ cls := "IncrLivenessModel", name := "isBlock", desc := "(I)Z" } : Jvm.MethodName)) ∈ lw_all := lw_g (lw_at lw_m0 152 rfl) rfl
theorem q172 : (Jvm.Cond.privateMethod ({ cls := "IncrLivenessModel", name := "isBlock", desc := "(I)Z" } : Jvm.MethodName)) ∈ lw_tbl := lw_at lw_m0 153 rfl
theorem q173 : (Jvm.Cond.instanceMethod ({ cls := "IncrLivenessModel", name := "isBlock", desc := "(I)Z" } : Jvm.MethodName)) ∈ lw_all := lw_g (lw_at lw_m0 154 rfl) rfl
theorem q174 : (Jvm.Cond.code ({ cls := "IncrLivenessModel", name := "isBlock", desc := "(I)Z" } : Jvm.MethodName) prog_3_method_2_code (2 : Nat) (Option.some Jvm.ClassFile.FieldType.boolean)) ∈ lw_all := lw_g (lw_at lw_m0 155 rfl) rfl
theorem q176 : (Jvm.Cond.instanceMethod ({ cls := "IncrLivenessModel", name := "hasArc", desc := "(II)Z" } : Jvm.MethodName)) ∈ lw_all := lw_g (lw_at lw_m0 157 rfl) rfl
theorem q177 : (Jvm.Cond.selects "IncrLivenessModel" ({ cls := "IncrLivenessModel", name := "hasArc", desc := "(II)Z" } : Jvm.MethodName) ({ cls := "IncrLivenessModel", name := "hasArc", desc := "(II)Z" } : Jvm.MethodName)) ∈ lw_all := lw_g (lw_at lw_m0 158 rfl) rfl
theorem q178 : (Jvm.Cond.code ({ cls := "IncrLivenessModel", name := "hasArc", desc := "(II)Z" } : Jvm.MethodName) prog_3_method_7_code (3 : Nat) (Option.some Jvm.ClassFile.FieldType.boolean)) ∈ lw_all := lw_g (lw_at lw_m0 159 rfl) rfl
theorem q179 : (Jvm.Cond.methodLink "IncrLivenessModel" (22 : Nat) ({ cls := "IncrLivenessModel", name := "has", desc := "(II)Z" } : Jvm.MethodName)) ∈ lw_all := lw_g (lw_at lw_m0 160 rfl) rfl
theorem q180 : (Jvm.Cond.privateMethod ({ cls := "IncrLivenessModel", name := "has", desc := "(II)Z" } : Jvm.MethodName)) ∈ lw_tbl := lw_at lw_m0 161 rfl
theorem q181 : (Jvm.Cond.instanceMethod ({ cls := "IncrLivenessModel", name := "has", desc := "(II)Z" } : Jvm.MethodName)) ∈ lw_all := lw_g (lw_at lw_m0 162 rfl) rfl
theorem q182 : (Jvm.Cond.code ({ cls := "IncrLivenessModel", name := "has", desc := "(II)Z" } : Jvm.MethodName) prog_3_method_4_code (3 : Nat) (Option.some Jvm.ClassFile.FieldType.boolean)) ∈ lw_all := lw_g (lw_at lw_m0 163 rfl) rfl
theorem q184 : (Jvm.Cond.instanceMethod ({ cls := "IncrLivenessModel", name := "use", desc := "(III)I" } : Jvm.MethodName)) ∈ lw_all := lw_g (lw_at lw_m0 165 rfl) rfl
theorem q185 : (Jvm.Cond.selects "IncrLivenessModel" ({ cls := "IncrLivenessModel", name := "use", desc := "(III)I" } : Jvm.MethodName) ({ cls := "IncrLivenessModel", name := "use", desc := "(III)I" } : Jvm.MethodName)) ∈ lw_all := lw_g (lw_at lw_m0 166 rfl) rfl
theorem q186 : (Jvm.Cond.code ({ cls := "IncrLivenessModel", name := "use", desc := "(III)I" } : Jvm.MethodName) prog_3_method_8_code (5 : Nat) (Option.some Jvm.ClassFile.FieldType.int)) ∈ lw_all := lw_g (lw_at lw_m0 167 rfl) rfl
theorem q187 : (Jvm.Cond.methodLink "IncrLivenessModel" (30 : Nat) ({ cls := "IncrLivenessModel", name := "isVariable", desc := "(I)Z" } : Jvm.MethodName)) ∈ lw_all := lw_g (lw_at lw_m0 168 rfl) rfl
theorem q188 : (Jvm.Cond.privateMethod ({ cls := "IncrLivenessModel", name := "isVariable", desc := "(I)Z" } : Jvm.MethodName)) ∈ lw_tbl := lw_at lw_m0 169 rfl
theorem q189 : (Jvm.Cond.instanceMethod ({ cls := "IncrLivenessModel", name := "isVariable", desc := "(I)Z" } : Jvm.MethodName)) ∈ lw_all := lw_g (lw_at lw_m0 170 rfl) rfl
theorem q190 : (Jvm.Cond.code ({ cls := "IncrLivenessModel", name := "isVariable", desc := "(I)Z" } : Jvm.MethodName) prog_3_method_3_code (2 : Nat) (Option.some Jvm.ClassFile.FieldType.boolean)) ∈ lw_all := lw_g (lw_at lw_m0 171 rfl) rfl
theorem q192 : (Jvm.Cond.instanceMethod ({ cls := "IncrLivenessModel", name := "set", desc := "(III)I" } : Jvm.MethodName)) ∈ lw_all := lw_g (lw_at lw_m0 173 rfl) rfl
theorem q193 : (Jvm.Cond.selects "IncrLivenessModel" ({ cls := "IncrLivenessModel", name := "set", desc := "(III)I" } : Jvm.MethodName) ({ cls := "IncrLivenessModel", name := "set", desc := "(III)I" } : Jvm.MethodName)) ∈ lw_all := lw_g (lw_at lw_m0 174 rfl) rfl
theorem q194 : (Jvm.Cond.code ({ cls := "IncrLivenessModel", name := "set", desc := "(III)I" } : Jvm.MethodName) prog_3_method_9_code (5 : Nat) (Option.some Jvm.ClassFile.FieldType.int)) ∈ lw_all := lw_g (lw_at lw_m0 175 rfl) rfl
theorem q196 : (Jvm.Cond.instanceMethod ({ cls := "IncrLivenessModel", name := "block", desc := "(III)I" } : Jvm.MethodName)) ∈ lw_all := lw_g (lw_at lw_m0 177 rfl) rfl
theorem q197 : (Jvm.Cond.selects "IncrLivenessModel" ({ cls := "IncrLivenessModel", name := "block", desc := "(III)I" } : Jvm.MethodName) ({ cls := "IncrLivenessModel", name := "block", desc := "(III)I" } : Jvm.MethodName)) ∈ lw_all := lw_g (lw_at lw_m0 178 rfl) rfl
theorem q198 : (Jvm.Cond.code ({ cls := "IncrLivenessModel", name := "block", desc := "(III)I" } : Jvm.MethodName) prog_3_method_10_code (4 : Nat) (Option.some Jvm.ClassFile.FieldType.int)) ∈ lw_all := lw_g (lw_at lw_m0 179 rfl) rfl
theorem q199 : (Jvm.Cond.constant "IncrLivenessModel" (33 : Nat) (1048575 : Int32)) ∈ lw_all := lw_g (lw_at lw_m0 180 rfl) rfl
theorem q201 : (Jvm.Cond.instanceMethod ({ cls := "IncrLivenessModel", name := "cutOff", desc := "(I)I" } : Jvm.MethodName)) ∈ lw_all := lw_g (lw_at lw_m0 182 rfl) rfl
theorem q202 : (Jvm.Cond.selects "IncrLivenessModel" ({ cls := "IncrLivenessModel", name := "cutOff", desc := "(I)I" } : Jvm.MethodName) ({ cls := "IncrLivenessModel", name := "cutOff", desc := "(I)I" } : Jvm.MethodName)) ∈ lw_all := lw_g (lw_at lw_m0 183 rfl) rfl
theorem q203 : (Jvm.Cond.code ({ cls := "IncrLivenessModel", name := "cutOff", desc := "(I)I" } : Jvm.MethodName) prog_3_method_11_code (4 : Nat) (Option.some Jvm.ClassFile.FieldType.int)) ∈ lw_all := lw_g (lw_at lw_m0 184 rfl) rfl
theorem q204 : (Jvm.Cond.methodLink "IncrLivenessModel" (34 : Nat) ({ cls := "IncrLivenessModel", name := "sizeOf", desc := "(I)I" } : Jvm.MethodName)) ∈ lw_all := lw_g (lw_at lw_m0 185 rfl) rfl
theorem q205 : (Jvm.Cond.privateMethod ({ cls := "IncrLivenessModel", name := "sizeOf", desc := "(I)I" } : Jvm.MethodName)) ∈ lw_tbl := lw_at lw_m0 186 rfl
theorem q206 : (Jvm.Cond.instanceMethod ({ cls := "IncrLivenessModel", name := "sizeOf", desc := "(I)I" } : Jvm.MethodName)) ∈ lw_all := lw_g (lw_at lw_m0 187 rfl) rfl
theorem q207 : (Jvm.Cond.code ({ cls := "IncrLivenessModel", name := "sizeOf", desc := "(I)I" } : Jvm.MethodName) prog_3_method_5_code (4 : Nat) (Option.some Jvm.ClassFile.FieldType.int)) ∈ lw_all := lw_g (lw_at lw_m0 188 rfl) rfl
theorem q209 : (Jvm.Cond.instanceMethod ({ cls := "IncrLivenessModel", name := "takeOver", desc := "(II)I" } : Jvm.MethodName)) ∈ lw_all := lw_g (lw_at lw_m0 190 rfl) rfl
theorem q210 : (Jvm.Cond.selects "IncrLivenessModel" ({ cls := "IncrLivenessModel", name := "takeOver", desc := "(II)I" } : Jvm.MethodName) ({ cls := "IncrLivenessModel", name := "takeOver", desc := "(II)I" } : Jvm.MethodName)) ∈ lw_all := lw_g (lw_at lw_m0 191 rfl) rfl
theorem q211 : (Jvm.Cond.code ({ cls := "IncrLivenessModel", name := "takeOver", desc := "(II)I" } : Jvm.MethodName) prog_3_method_12_code (4 : Nat) (Option.some Jvm.ClassFile.FieldType.int)) ∈ lw_all := lw_g (lw_at lw_m0 192 rfl) rfl
theorem q213 : (Jvm.Cond.instanceMethod ({ cls := "IncrLivenessModel", name := "liveIn", desc := "(I)I" } : Jvm.MethodName)) ∈ lw_all := lw_g (lw_at lw_m0 194 rfl) rfl
theorem q214 : (Jvm.Cond.selects "IncrLivenessModel" ({ cls := "IncrLivenessModel", name := "liveIn", desc := "(I)I" } : Jvm.MethodName) ({ cls := "IncrLivenessModel", name := "liveIn", desc := "(I)I" } : Jvm.MethodName)) ∈ lw_all := lw_g (lw_at lw_m0 195 rfl) rfl
theorem q215 : (Jvm.Cond.code ({ cls := "IncrLivenessModel", name := "liveIn", desc := "(I)I" } : Jvm.MethodName) prog_3_method_15_code (2 : Nat) (Option.some Jvm.ClassFile.FieldType.int)) ∈ lw_all := lw_g (lw_at lw_m0 196 rfl) rfl
theorem q216 : (Jvm.Cond.methodLink "IncrLivenessModel" (41 : Nat) ({ cls := "IncrLivenessModel", name := "spread", desc := "()V" } : Jvm.MethodName)) ∈ lw_all := lw_g (lw_at lw_m0 197 rfl) rfl
theorem q217 : (Jvm.Cond.privateMethod ({ cls := "IncrLivenessModel", name := "spread", desc := "()V" } : Jvm.MethodName)) ∈ lw_tbl := lw_at lw_m0 198 rfl
theorem q218 : (Jvm.Cond.instanceMethod ({ cls := "IncrLivenessModel", name := "spread", desc := "()V" } : Jvm.MethodName)) ∈ lw_all := lw_g (lw_at lw_m0 199 rfl) rfl
theorem q219 : (Jvm.Cond.code ({ cls := "IncrLivenessModel", name := "spread", desc := "()V" } : Jvm.MethodName) prog_3_method_14_code (3 : Nat) (Option.none : Option Jvm.ClassFile.FieldType)) ∈ lw_all := lw_g (lw_at lw_m0 200 rfl) rfl
theorem q220 : (Jvm.Cond.methodLink "IncrLivenessModel" (38 : Nat) ({ cls := "IncrLivenessModel", name := "behind", desc := "(I)I" } : Jvm.MethodName)) ∈ lw_all := lw_g (lw_at lw_m0 201 rfl) rfl
theorem q221 : (Jvm.Cond.privateMethod ({ cls := "IncrLivenessModel", name := "behind", desc := "(I)I" } : Jvm.MethodName)) ∈ lw_tbl := lw_at lw_m0 202 rfl
theorem q222 : (Jvm.Cond.instanceMethod ({ cls := "IncrLivenessModel", name := "behind", desc := "(I)I" } : Jvm.MethodName)) ∈ lw_all := lw_g (lw_at lw_m0 203 rfl) rfl
theorem q223 : (Jvm.Cond.code ({ cls := "IncrLivenessModel", name := "behind", desc := "(I)I" } : Jvm.MethodName) prog_3_method_13_code (4 : Nat) (Option.some Jvm.ClassFile.FieldType.int)) ∈ lw_all := lw_g (lw_at lw_m0 204 rfl) rfl
theorem q225 : (Jvm.Cond.instanceMethod ({ cls := "IncrLivenessModel", name := "liveOut", desc := "(I)I" } : Jvm.MethodName)) ∈ lw_all := lw_g (lw_at lw_m0 206 rfl) rfl
theorem q226 : (Jvm.Cond.selects "IncrLivenessModel" ({ cls := "IncrLivenessModel", name := "liveOut", desc := "(I)I" } : Jvm.MethodName) ({ cls := "IncrLivenessModel", name := "liveOut", desc := "(I)I" } : Jvm.MethodName)) ∈ lw_all := lw_g (lw_at lw_m0 207 rfl) rfl
theorem q227 : (Jvm.Cond.code ({ cls := "IncrLivenessModel", name := "liveOut", desc := "(I)I" } : Jvm.MethodName) prog_3_method_16_code (2 : Nat) (Option.some Jvm.ClassFile.FieldType.int)) ∈ lw_all := lw_g (lw_at lw_m0 208 rfl) rfl
theorem q229 : (Jvm.Cond.instanceMethod ({ cls := "IncrLivenessModel", name := "liveBlocks", desc := "(I)I" } : Jvm.MethodName)) ∈ lw_all := lw_g (lw_at lw_m0 210 rfl) rfl
theorem q230 : (Jvm.Cond.selects "IncrLivenessModel" ({ cls := "IncrLivenessModel", name := "liveBlocks", desc := "(I)I" } : Jvm.MethodName) ({ cls := "IncrLivenessModel", name := "liveBlocks", desc := "(I)I" } : Jvm.MethodName)) ∈ lw_all := lw_g (lw_at lw_m0 211 rfl) rfl
theorem q231 : (Jvm.Cond.code ({ cls := "IncrLivenessModel", name := "liveBlocks", desc := "(I)I" } : Jvm.MethodName) prog_3_method_17_code (4 : Nat) (Option.some Jvm.ClassFile.FieldType.int)) ∈ lw_all := lw_g (lw_at lw_m0 212 rfl) rfl
theorem q233 : (Jvm.Cond.instanceMethod ({ cls := "IncrLivenessModel", name := "idleSets", desc := "()I" } : Jvm.MethodName)) ∈ lw_all := lw_g (lw_at lw_m0 214 rfl) rfl
theorem q234 : (Jvm.Cond.selects "IncrLivenessModel" ({ cls := "IncrLivenessModel", name := "idleSets", desc := "()I" } : Jvm.MethodName) ({ cls := "IncrLivenessModel", name := "idleSets", desc := "()I" } : Jvm.MethodName)) ∈ lw_all := lw_g (lw_at lw_m0 215 rfl) rfl
theorem q235 : (Jvm.Cond.code ({ cls := "IncrLivenessModel", name := "idleSets", desc := "()I" } : Jvm.MethodName) prog_3_method_18_code (4 : Nat) (Option.some Jvm.ClassFile.FieldType.int)) ∈ lw_all := lw_g (lw_at lw_m0 216 rfl) rfl
theorem q237 : (Jvm.Cond.instanceMethod ({ cls := "IncrLivenessModel", name := "pressure", desc := "()I" } : Jvm.MethodName)) ∈ lw_all := lw_g (lw_at lw_m0 218 rfl) rfl
theorem q238 : (Jvm.Cond.selects "IncrLivenessModel" ({ cls := "IncrLivenessModel", name := "pressure", desc := "()I" } : Jvm.MethodName) ({ cls := "IncrLivenessModel", name := "pressure", desc := "()I" } : Jvm.MethodName)) ∈ lw_all := lw_g (lw_at lw_m0 219 rfl) rfl
theorem q239 : (Jvm.Cond.code ({ cls := "IncrLivenessModel", name := "pressure", desc := "()I" } : Jvm.MethodName) prog_3_method_19_code (4 : Nat) (Option.some Jvm.ClassFile.FieldType.int)) ∈ lw_all := lw_g (lw_at lw_m0 220 rfl) rfl
theorem q241 : (Jvm.Cond.instanceMethod ({ cls := "IncrLivenessModel", name := "reaching", desc := "(II)I" } : Jvm.MethodName)) ∈ lw_all := lw_g (lw_at lw_m0 222 rfl) rfl
theorem q242 : (Jvm.Cond.selects "IncrLivenessModel" ({ cls := "IncrLivenessModel", name := "reaching", desc := "(II)I" } : Jvm.MethodName) ({ cls := "IncrLivenessModel", name := "reaching", desc := "(II)I" } : Jvm.MethodName)) ∈ lw_all := lw_g (lw_at lw_m0 223 rfl) rfl
theorem q243 : (Jvm.Cond.code ({ cls := "IncrLivenessModel", name := "reaching", desc := "(II)I" } : Jvm.MethodName) prog_3_method_21_code (6 : Nat) (Option.some Jvm.ClassFile.FieldType.int)) ∈ lw_all := lw_g (lw_at lw_m0 224 rfl) rfl
theorem q244 : (Jvm.Cond.methodLink "IncrLivenessModel" (44 : Nat) ({ cls := "IncrLivenessModel", name := "far", desc := "(II)I" } : Jvm.MethodName)) ∈ lw_all := lw_g (lw_at lw_m0 225 rfl) rfl
theorem q245 : (Jvm.Cond.privateMethod ({ cls := "IncrLivenessModel", name := "far", desc := "(II)I" } : Jvm.MethodName)) ∈ lw_tbl := lw_at lw_m0 226 rfl
theorem q246 : (Jvm.Cond.instanceMethod ({ cls := "IncrLivenessModel", name := "far", desc := "(II)I" } : Jvm.MethodName)) ∈ lw_all := lw_g (lw_at lw_m0 227 rfl) rfl
theorem q247 : (Jvm.Cond.code ({ cls := "IncrLivenessModel", name := "far", desc := "(II)I" } : Jvm.MethodName) prog_3_method_20_code (6 : Nat) (Option.some Jvm.ClassFile.FieldType.int)) ∈ lw_all := lw_g (lw_at lw_m0 228 rfl) rfl
theorem q249 : (Jvm.Cond.instanceMethod ({ cls := "IncrLivenessModel", name := "crowded", desc := "()I" } : Jvm.MethodName)) ∈ lw_all := lw_g (lw_at lw_m0 230 rfl) rfl
theorem q250 : (Jvm.Cond.selects "IncrLivenessModel" ({ cls := "IncrLivenessModel", name := "crowded", desc := "()I" } : Jvm.MethodName) ({ cls := "IncrLivenessModel", name := "crowded", desc := "()I" } : Jvm.MethodName)) ∈ lw_all := lw_g (lw_at lw_m0 231 rfl) rfl
theorem q251 : (Jvm.Cond.code ({ cls := "IncrLivenessModel", name := "crowded", desc := "()I" } : Jvm.MethodName) prog_3_method_23_code (4 : Nat) (Option.some Jvm.ClassFile.FieldType.int)) ∈ lw_all := lw_g (lw_at lw_m0 232 rfl) rfl
theorem q252 : (Jvm.Cond.methodLink "IncrLivenessModel" (48 : Nat) ({ cls := "IncrLivenessModel", name := "besides", desc := "(I)I" } : Jvm.MethodName)) ∈ lw_all := lw_g (lw_at lw_m0 233 rfl) rfl
theorem q253 : (Jvm.Cond.privateMethod ({ cls := "IncrLivenessModel", name := "besides", desc := "(I)I" } : Jvm.MethodName)) ∈ lw_tbl := lw_at lw_m0 234 rfl
theorem q254 : (Jvm.Cond.instanceMethod ({ cls := "IncrLivenessModel", name := "besides", desc := "(I)I" } : Jvm.MethodName)) ∈ lw_all := lw_g (lw_at lw_m0 235 rfl) rfl
theorem q255 : (Jvm.Cond.code ({ cls := "IncrLivenessModel", name := "besides", desc := "(I)I" } : Jvm.MethodName) prog_3_method_22_code (4 : Nat) (Option.some Jvm.ClassFile.FieldType.int)) ∈ lw_all := lw_g (lw_at lw_m0 236 rfl) rfl
theorem in_X1 : ∀ w ∈ wsX10, w ∈ lw_all := lw_in wsX10 [158, 160, 162, 164] (by decide +kernel) (by decide +kernel)
end
section
/-! the law's own entry -/
set_option maxRecDepth 100000
abbrev cL_law : ByteArray := code
theorem dL_law_0 : decode cL_law 0 = .ok (.new 7, 3) := by decide +kernel
theorem dL_law_3 : decode cL_law 3 = .ok (.dup, 1) := by decide +kernel
theorem dL_law_4 : decode cL_law 4 = .ok (.invokespecial 9, 3) := by decide +kernel
theorem dL_law_7 : decode cL_law 7 = .ok (.astore_n 1, 1) := by decide +kernel
theorem dL_law_8 : decode cL_law 8 = .ok (.new 10, 3) := by decide +kernel
theorem dL_law_11 : decode cL_law 11 = .ok (.dup, 1) := by decide +kernel
theorem dL_law_12 : decode cL_law 12 = .ok (.invokespecial 12, 3) := by decide +kernel
theorem dL_law_15 : decode cL_law 15 = .ok (.astore_n 2, 1) := by decide +kernel
theorem dL_law_16 : decode cL_law 16 = .ok (.iconst 0, 1) := by decide +kernel
theorem dL_law_17 : decode cL_law 17 = .ok (.istore_n 3, 1) := by decide +kernel
theorem dL_law_18 : decode cL_law 18 = .ok (.iload_n 3, 1) := by decide +kernel
theorem dL_law_19 : decode cL_law 19 = .ok (.aload_n 0, 1) := by decide +kernel
theorem dL_law_20 : decode cL_law 20 = .ok (.arraylength, 1) := by decide +kernel
theorem dL_law_21 : decode cL_law 21 = .ok (.iconst 4, 1) := by decide +kernel
theorem dL_law_22 : decode cL_law 22 = .ok (.isub, 1) := by decide +kernel
theorem dL_law_23 : decode cL_law 23 = .ok (.if_icmp .gt 489, 3) := by decide +kernel
theorem dL_law_26 : decode cL_law 26 = .ok (.aload_n 0, 1) := by decide +kernel
theorem dL_law_27 : decode cL_law 27 = .ok (.iload_n 3, 1) := by decide +kernel
theorem dL_law_28 : decode cL_law 28 = .ok (.iaload, 1) := by decide +kernel
theorem dL_law_29 : decode cL_law 29 = .ok (.bipush 15, 2) := by decide +kernel
theorem dL_law_31 : decode cL_law 31 = .ok (.iand, 1) := by decide +kernel
theorem dL_law_32 : decode cL_law 32 = .ok (.tableswitch 474 0 13 #[72, 115, 148, 191, 234, 277, 300, 333, 356, 379, 402, 415, 428, 461], 72) := by decide +kernel
theorem dL_law_104 : decode cL_law 104 = .ok (.aload_n 1, 1) := by decide +kernel
theorem dL_law_105 : decode cL_law 105 = .ok (.aload_n 0, 1) := by decide +kernel
theorem dL_law_106 : decode cL_law 106 = .ok (.iload_n 3, 1) := by decide +kernel
theorem dL_law_107 : decode cL_law 107 = .ok (.iconst 1, 1) := by decide +kernel
theorem dL_law_108 : decode cL_law 108 = .ok (.iadd, 1) := by decide +kernel
theorem dL_law_109 : decode cL_law 109 = .ok (.iaload, 1) := by decide +kernel
theorem dL_law_110 : decode cL_law 110 = .ok (.aload_n 0, 1) := by decide +kernel
theorem dL_law_111 : decode cL_law 111 = .ok (.iload_n 3, 1) := by decide +kernel
theorem dL_law_112 : decode cL_law 112 = .ok (.iconst 2, 1) := by decide +kernel
theorem dL_law_113 : decode cL_law 113 = .ok (.iadd, 1) := by decide +kernel
theorem dL_law_114 : decode cL_law 114 = .ok (.iaload, 1) := by decide +kernel
theorem dL_law_115 : decode cL_law 115 = .ok (.aload_n 0, 1) := by decide +kernel
theorem dL_law_116 : decode cL_law 116 = .ok (.iload_n 3, 1) := by decide +kernel
theorem dL_law_117 : decode cL_law 117 = .ok (.iconst 3, 1) := by decide +kernel
theorem dL_law_118 : decode cL_law 118 = .ok (.iadd, 1) := by decide +kernel
theorem dL_law_119 : decode cL_law 119 = .ok (.iaload, 1) := by decide +kernel
theorem dL_law_120 : decode cL_law 120 = .ok (.invokevirtual 13, 3) := by decide +kernel
theorem dL_law_123 : decode cL_law 123 = .ok (.aload_n 2, 1) := by decide +kernel
theorem dL_law_124 : decode cL_law 124 = .ok (.aload_n 0, 1) := by decide +kernel
theorem dL_law_125 : decode cL_law 125 = .ok (.iload_n 3, 1) := by decide +kernel
theorem dL_law_126 : decode cL_law 126 = .ok (.iconst 1, 1) := by decide +kernel
theorem dL_law_127 : decode cL_law 127 = .ok (.iadd, 1) := by decide +kernel
theorem dL_law_128 : decode cL_law 128 = .ok (.iaload, 1) := by decide +kernel
theorem dL_law_129 : decode cL_law 129 = .ok (.aload_n 0, 1) := by decide +kernel
theorem dL_law_130 : decode cL_law 130 = .ok (.iload_n 3, 1) := by decide +kernel
theorem dL_law_131 : decode cL_law 131 = .ok (.iconst 2, 1) := by decide +kernel
theorem dL_law_132 : decode cL_law 132 = .ok (.iadd, 1) := by decide +kernel
theorem dL_law_133 : decode cL_law 133 = .ok (.iaload, 1) := by decide +kernel
theorem dL_law_134 : decode cL_law 134 = .ok (.aload_n 0, 1) := by decide +kernel
theorem dL_law_135 : decode cL_law 135 = .ok (.iload_n 3, 1) := by decide +kernel
theorem dL_law_136 : decode cL_law 136 = .ok (.iconst 3, 1) := by decide +kernel
theorem dL_law_137 : decode cL_law 137 = .ok (.iadd, 1) := by decide +kernel
theorem dL_law_138 : decode cL_law 138 = .ok (.iaload, 1) := by decide +kernel
theorem dL_law_139 : decode cL_law 139 = .ok (.invokevirtual 17, 3) := by decide +kernel
theorem dL_law_142 : decode cL_law 142 = .ok (.if_icmp .eq 364, 3) := by decide +kernel
theorem dL_law_145 : decode cL_law 145 = .ok (.iconst 0, 1) := by decide +kernel
theorem dL_law_146 : decode cL_law 146 = .ok (.ireturn, 1) := by decide +kernel
theorem dL_law_147 : decode cL_law 147 = .ok (.aload_n 1, 1) := by decide +kernel
theorem dL_law_148 : decode cL_law 148 = .ok (.aload_n 0, 1) := by decide +kernel
theorem dL_law_149 : decode cL_law 149 = .ok (.iload_n 3, 1) := by decide +kernel
theorem dL_law_150 : decode cL_law 150 = .ok (.iconst 1, 1) := by decide +kernel
theorem dL_law_151 : decode cL_law 151 = .ok (.iadd, 1) := by decide +kernel
theorem dL_law_152 : decode cL_law 152 = .ok (.iaload, 1) := by decide +kernel
theorem dL_law_153 : decode cL_law 153 = .ok (.aload_n 0, 1) := by decide +kernel
theorem dL_law_154 : decode cL_law 154 = .ok (.iload_n 3, 1) := by decide +kernel
theorem dL_law_155 : decode cL_law 155 = .ok (.iconst 2, 1) := by decide +kernel
theorem dL_law_156 : decode cL_law 156 = .ok (.iadd, 1) := by decide +kernel
theorem dL_law_157 : decode cL_law 157 = .ok (.iaload, 1) := by decide +kernel
theorem dL_law_158 : decode cL_law 158 = .ok (.invokevirtual 18, 3) := by decide +kernel
theorem dL_law_161 : decode cL_law 161 = .ok (.aload_n 2, 1) := by decide +kernel
theorem dL_law_162 : decode cL_law 162 = .ok (.aload_n 0, 1) := by decide +kernel
theorem dL_law_163 : decode cL_law 163 = .ok (.iload_n 3, 1) := by decide +kernel
theorem dL_law_164 : decode cL_law 164 = .ok (.iconst 1, 1) := by decide +kernel
theorem dL_law_165 : decode cL_law 165 = .ok (.iadd, 1) := by decide +kernel
theorem dL_law_166 : decode cL_law 166 = .ok (.iaload, 1) := by decide +kernel
theorem dL_law_167 : decode cL_law 167 = .ok (.aload_n 0, 1) := by decide +kernel
theorem dL_law_168 : decode cL_law 168 = .ok (.iload_n 3, 1) := by decide +kernel
theorem dL_law_169 : decode cL_law 169 = .ok (.iconst 2, 1) := by decide +kernel
theorem dL_law_170 : decode cL_law 170 = .ok (.iadd, 1) := by decide +kernel
theorem dL_law_171 : decode cL_law 171 = .ok (.iaload, 1) := by decide +kernel
theorem dL_law_172 : decode cL_law 172 = .ok (.invokevirtual 22, 3) := by decide +kernel
theorem dL_law_175 : decode cL_law 175 = .ok (.if_icmp .eq 331, 3) := by decide +kernel
theorem dL_law_178 : decode cL_law 178 = .ok (.iconst 0, 1) := by decide +kernel
theorem dL_law_179 : decode cL_law 179 = .ok (.ireturn, 1) := by decide +kernel
theorem dL_law_180 : decode cL_law 180 = .ok (.aload_n 1, 1) := by decide +kernel
theorem dL_law_181 : decode cL_law 181 = .ok (.aload_n 0, 1) := by decide +kernel
theorem dL_law_182 : decode cL_law 182 = .ok (.iload_n 3, 1) := by decide +kernel
theorem dL_law_183 : decode cL_law 183 = .ok (.iconst 1, 1) := by decide +kernel
theorem dL_law_184 : decode cL_law 184 = .ok (.iadd, 1) := by decide +kernel
theorem dL_law_185 : decode cL_law 185 = .ok (.iaload, 1) := by decide +kernel
theorem dL_law_186 : decode cL_law 186 = .ok (.aload_n 0, 1) := by decide +kernel
theorem dL_law_187 : decode cL_law 187 = .ok (.iload_n 3, 1) := by decide +kernel
theorem dL_law_188 : decode cL_law 188 = .ok (.iconst 2, 1) := by decide +kernel
theorem dL_law_189 : decode cL_law 189 = .ok (.iadd, 1) := by decide +kernel
theorem dL_law_190 : decode cL_law 190 = .ok (.iaload, 1) := by decide +kernel
theorem dL_law_191 : decode cL_law 191 = .ok (.aload_n 0, 1) := by decide +kernel
theorem dL_law_192 : decode cL_law 192 = .ok (.iload_n 3, 1) := by decide +kernel
theorem dL_law_193 : decode cL_law 193 = .ok (.iconst 3, 1) := by decide +kernel
theorem dL_law_194 : decode cL_law 194 = .ok (.iadd, 1) := by decide +kernel
theorem dL_law_195 : decode cL_law 195 = .ok (.iaload, 1) := by decide +kernel
theorem dL_law_196 : decode cL_law 196 = .ok (.invokevirtual 23, 3) := by decide +kernel
theorem dL_law_199 : decode cL_law 199 = .ok (.aload_n 2, 1) := by decide +kernel
theorem dL_law_200 : decode cL_law 200 = .ok (.aload_n 0, 1) := by decide +kernel
theorem dL_law_201 : decode cL_law 201 = .ok (.iload_n 3, 1) := by decide +kernel
theorem dL_law_202 : decode cL_law 202 = .ok (.iconst 1, 1) := by decide +kernel
theorem dL_law_203 : decode cL_law 203 = .ok (.iadd, 1) := by decide +kernel
theorem dL_law_204 : decode cL_law 204 = .ok (.iaload, 1) := by decide +kernel
theorem dL_law_205 : decode cL_law 205 = .ok (.aload_n 0, 1) := by decide +kernel
theorem dL_law_206 : decode cL_law 206 = .ok (.iload_n 3, 1) := by decide +kernel
theorem dL_law_207 : decode cL_law 207 = .ok (.iconst 2, 1) := by decide +kernel
theorem dL_law_208 : decode cL_law 208 = .ok (.iadd, 1) := by decide +kernel
theorem dL_law_209 : decode cL_law 209 = .ok (.iaload, 1) := by decide +kernel
theorem dL_law_210 : decode cL_law 210 = .ok (.aload_n 0, 1) := by decide +kernel
theorem dL_law_211 : decode cL_law 211 = .ok (.iload_n 3, 1) := by decide +kernel
theorem dL_law_212 : decode cL_law 212 = .ok (.iconst 3, 1) := by decide +kernel
theorem dL_law_213 : decode cL_law 213 = .ok (.iadd, 1) := by decide +kernel
theorem dL_law_214 : decode cL_law 214 = .ok (.iaload, 1) := by decide +kernel
theorem dL_law_215 : decode cL_law 215 = .ok (.invokevirtual 26, 3) := by decide +kernel
theorem dL_law_218 : decode cL_law 218 = .ok (.if_icmp .eq 288, 3) := by decide +kernel
theorem dL_law_221 : decode cL_law 221 = .ok (.iconst 0, 1) := by decide +kernel
theorem dL_law_222 : decode cL_law 222 = .ok (.ireturn, 1) := by decide +kernel
theorem dL_law_223 : decode cL_law 223 = .ok (.aload_n 1, 1) := by decide +kernel
theorem dL_law_224 : decode cL_law 224 = .ok (.aload_n 0, 1) := by decide +kernel
theorem dL_law_225 : decode cL_law 225 = .ok (.iload_n 3, 1) := by decide +kernel
theorem dL_law_226 : decode cL_law 226 = .ok (.iconst 1, 1) := by decide +kernel
theorem dL_law_227 : decode cL_law 227 = .ok (.iadd, 1) := by decide +kernel
theorem dL_law_228 : decode cL_law 228 = .ok (.iaload, 1) := by decide +kernel
theorem dL_law_229 : decode cL_law 229 = .ok (.aload_n 0, 1) := by decide +kernel
theorem dL_law_230 : decode cL_law 230 = .ok (.iload_n 3, 1) := by decide +kernel
theorem dL_law_231 : decode cL_law 231 = .ok (.iconst 2, 1) := by decide +kernel
theorem dL_law_232 : decode cL_law 232 = .ok (.iadd, 1) := by decide +kernel
theorem dL_law_233 : decode cL_law 233 = .ok (.iaload, 1) := by decide +kernel
theorem dL_law_234 : decode cL_law 234 = .ok (.aload_n 0, 1) := by decide +kernel
theorem dL_law_235 : decode cL_law 235 = .ok (.iload_n 3, 1) := by decide +kernel
theorem dL_law_236 : decode cL_law 236 = .ok (.iconst 3, 1) := by decide +kernel
theorem dL_law_237 : decode cL_law 237 = .ok (.iadd, 1) := by decide +kernel
theorem dL_law_238 : decode cL_law 238 = .ok (.iaload, 1) := by decide +kernel
theorem dL_law_239 : decode cL_law 239 = .ok (.invokevirtual 27, 3) := by decide +kernel
theorem dL_law_242 : decode cL_law 242 = .ok (.aload_n 2, 1) := by decide +kernel
theorem dL_law_243 : decode cL_law 243 = .ok (.aload_n 0, 1) := by decide +kernel
theorem dL_law_244 : decode cL_law 244 = .ok (.iload_n 3, 1) := by decide +kernel
theorem dL_law_245 : decode cL_law 245 = .ok (.iconst 1, 1) := by decide +kernel
theorem dL_law_246 : decode cL_law 246 = .ok (.iadd, 1) := by decide +kernel
theorem dL_law_247 : decode cL_law 247 = .ok (.iaload, 1) := by decide +kernel
theorem dL_law_248 : decode cL_law 248 = .ok (.aload_n 0, 1) := by decide +kernel
theorem dL_law_249 : decode cL_law 249 = .ok (.iload_n 3, 1) := by decide +kernel
theorem dL_law_250 : decode cL_law 250 = .ok (.iconst 2, 1) := by decide +kernel
theorem dL_law_251 : decode cL_law 251 = .ok (.iadd, 1) := by decide +kernel
theorem dL_law_252 : decode cL_law 252 = .ok (.iaload, 1) := by decide +kernel
theorem dL_law_253 : decode cL_law 253 = .ok (.aload_n 0, 1) := by decide +kernel
theorem dL_law_254 : decode cL_law 254 = .ok (.iload_n 3, 1) := by decide +kernel
theorem dL_law_255 : decode cL_law 255 = .ok (.iconst 3, 1) := by decide +kernel
theorem dL_law_256 : decode cL_law 256 = .ok (.iadd, 1) := by decide +kernel
theorem dL_law_257 : decode cL_law 257 = .ok (.iaload, 1) := by decide +kernel
theorem dL_law_258 : decode cL_law 258 = .ok (.invokevirtual 30, 3) := by decide +kernel
theorem dL_law_261 : decode cL_law 261 = .ok (.if_icmp .eq 245, 3) := by decide +kernel
theorem dL_law_264 : decode cL_law 264 = .ok (.iconst 0, 1) := by decide +kernel
theorem dL_law_265 : decode cL_law 265 = .ok (.ireturn, 1) := by decide +kernel
theorem dL_law_266 : decode cL_law 266 = .ok (.aload_n 1, 1) := by decide +kernel
theorem dL_law_267 : decode cL_law 267 = .ok (.aload_n 0, 1) := by decide +kernel
theorem dL_law_268 : decode cL_law 268 = .ok (.iload_n 3, 1) := by decide +kernel
theorem dL_law_269 : decode cL_law 269 = .ok (.iconst 1, 1) := by decide +kernel
theorem dL_law_270 : decode cL_law 270 = .ok (.iadd, 1) := by decide +kernel
theorem dL_law_271 : decode cL_law 271 = .ok (.iaload, 1) := by decide +kernel
theorem dL_law_272 : decode cL_law 272 = .ok (.aload_n 0, 1) := by decide +kernel
theorem dL_law_273 : decode cL_law 273 = .ok (.iload_n 3, 1) := by decide +kernel
theorem dL_law_274 : decode cL_law 274 = .ok (.iconst 2, 1) := by decide +kernel
theorem dL_law_275 : decode cL_law 275 = .ok (.iadd, 1) := by decide +kernel
theorem dL_law_276 : decode cL_law 276 = .ok (.iaload, 1) := by decide +kernel
theorem dL_law_277 : decode cL_law 277 = .ok (.aload_n 0, 1) := by decide +kernel
theorem dL_law_278 : decode cL_law 278 = .ok (.iload_n 3, 1) := by decide +kernel
theorem dL_law_279 : decode cL_law 279 = .ok (.iconst 3, 1) := by decide +kernel
theorem dL_law_280 : decode cL_law 280 = .ok (.iadd, 1) := by decide +kernel
theorem dL_law_281 : decode cL_law 281 = .ok (.iaload, 1) := by decide +kernel
theorem dL_law_282 : decode cL_law 282 = .ok (.invokevirtual 31, 3) := by decide +kernel
theorem dL_law_285 : decode cL_law 285 = .ok (.aload_n 2, 1) := by decide +kernel
theorem dL_law_286 : decode cL_law 286 = .ok (.aload_n 0, 1) := by decide +kernel
theorem dL_law_287 : decode cL_law 287 = .ok (.iload_n 3, 1) := by decide +kernel
theorem dL_law_288 : decode cL_law 288 = .ok (.iconst 1, 1) := by decide +kernel
theorem dL_law_289 : decode cL_law 289 = .ok (.iadd, 1) := by decide +kernel
theorem dL_law_290 : decode cL_law 290 = .ok (.iaload, 1) := by decide +kernel
theorem dL_law_291 : decode cL_law 291 = .ok (.aload_n 0, 1) := by decide +kernel
theorem dL_law_292 : decode cL_law 292 = .ok (.iload_n 3, 1) := by decide +kernel
theorem dL_law_293 : decode cL_law 293 = .ok (.iconst 2, 1) := by decide +kernel
theorem dL_law_294 : decode cL_law 294 = .ok (.iadd, 1) := by decide +kernel
theorem dL_law_295 : decode cL_law 295 = .ok (.iaload, 1) := by decide +kernel
theorem dL_law_296 : decode cL_law 296 = .ok (.aload_n 0, 1) := by decide +kernel
theorem dL_law_297 : decode cL_law 297 = .ok (.iload_n 3, 1) := by decide +kernel
theorem dL_law_298 : decode cL_law 298 = .ok (.iconst 3, 1) := by decide +kernel
theorem dL_law_299 : decode cL_law 299 = .ok (.iadd, 1) := by decide +kernel
theorem dL_law_300 : decode cL_law 300 = .ok (.iaload, 1) := by decide +kernel
theorem dL_law_301 : decode cL_law 301 = .ok (.invokevirtual 34, 3) := by decide +kernel
theorem dL_law_304 : decode cL_law 304 = .ok (.if_icmp .eq 202, 3) := by decide +kernel
theorem dL_law_307 : decode cL_law 307 = .ok (.iconst 0, 1) := by decide +kernel
theorem dL_law_308 : decode cL_law 308 = .ok (.ireturn, 1) := by decide +kernel
theorem dL_law_309 : decode cL_law 309 = .ok (.aload_n 1, 1) := by decide +kernel
theorem dL_law_310 : decode cL_law 310 = .ok (.aload_n 0, 1) := by decide +kernel
theorem dL_law_311 : decode cL_law 311 = .ok (.iload_n 3, 1) := by decide +kernel
theorem dL_law_312 : decode cL_law 312 = .ok (.iconst 1, 1) := by decide +kernel
theorem dL_law_313 : decode cL_law 313 = .ok (.iadd, 1) := by decide +kernel
theorem dL_law_314 : decode cL_law 314 = .ok (.iaload, 1) := by decide +kernel
theorem dL_law_315 : decode cL_law 315 = .ok (.invokevirtual 35, 3) := by decide +kernel
theorem dL_law_318 : decode cL_law 318 = .ok (.aload_n 2, 1) := by decide +kernel
theorem dL_law_319 : decode cL_law 319 = .ok (.aload_n 0, 1) := by decide +kernel
theorem dL_law_320 : decode cL_law 320 = .ok (.iload_n 3, 1) := by decide +kernel
theorem dL_law_321 : decode cL_law 321 = .ok (.iconst 1, 1) := by decide +kernel
theorem dL_law_322 : decode cL_law 322 = .ok (.iadd, 1) := by decide +kernel
theorem dL_law_323 : decode cL_law 323 = .ok (.iaload, 1) := by decide +kernel
theorem dL_law_324 : decode cL_law 324 = .ok (.invokevirtual 39, 3) := by decide +kernel
theorem dL_law_327 : decode cL_law 327 = .ok (.if_icmp .eq 179, 3) := by decide +kernel
theorem dL_law_330 : decode cL_law 330 = .ok (.iconst 0, 1) := by decide +kernel
theorem dL_law_331 : decode cL_law 331 = .ok (.ireturn, 1) := by decide +kernel
theorem dL_law_332 : decode cL_law 332 = .ok (.aload_n 1, 1) := by decide +kernel
theorem dL_law_333 : decode cL_law 333 = .ok (.aload_n 0, 1) := by decide +kernel
theorem dL_law_334 : decode cL_law 334 = .ok (.iload_n 3, 1) := by decide +kernel
theorem dL_law_335 : decode cL_law 335 = .ok (.iconst 1, 1) := by decide +kernel
theorem dL_law_336 : decode cL_law 336 = .ok (.iadd, 1) := by decide +kernel
theorem dL_law_337 : decode cL_law 337 = .ok (.iaload, 1) := by decide +kernel
theorem dL_law_338 : decode cL_law 338 = .ok (.aload_n 0, 1) := by decide +kernel
theorem dL_law_339 : decode cL_law 339 = .ok (.iload_n 3, 1) := by decide +kernel
theorem dL_law_340 : decode cL_law 340 = .ok (.iconst 2, 1) := by decide +kernel
theorem dL_law_341 : decode cL_law 341 = .ok (.iadd, 1) := by decide +kernel
theorem dL_law_342 : decode cL_law 342 = .ok (.iaload, 1) := by decide +kernel
theorem dL_law_343 : decode cL_law 343 = .ok (.invokevirtual 40, 3) := by decide +kernel
theorem dL_law_346 : decode cL_law 346 = .ok (.aload_n 2, 1) := by decide +kernel
theorem dL_law_347 : decode cL_law 347 = .ok (.aload_n 0, 1) := by decide +kernel
theorem dL_law_348 : decode cL_law 348 = .ok (.iload_n 3, 1) := by decide +kernel
theorem dL_law_349 : decode cL_law 349 = .ok (.iconst 1, 1) := by decide +kernel
theorem dL_law_350 : decode cL_law 350 = .ok (.iadd, 1) := by decide +kernel
theorem dL_law_351 : decode cL_law 351 = .ok (.iaload, 1) := by decide +kernel
theorem dL_law_352 : decode cL_law 352 = .ok (.aload_n 0, 1) := by decide +kernel
theorem dL_law_353 : decode cL_law 353 = .ok (.iload_n 3, 1) := by decide +kernel
theorem dL_law_354 : decode cL_law 354 = .ok (.iconst 2, 1) := by decide +kernel
theorem dL_law_355 : decode cL_law 355 = .ok (.iadd, 1) := by decide +kernel
theorem dL_law_356 : decode cL_law 356 = .ok (.iaload, 1) := by decide +kernel
theorem dL_law_357 : decode cL_law 357 = .ok (.invokevirtual 44, 3) := by decide +kernel
theorem dL_law_360 : decode cL_law 360 = .ok (.if_icmp .eq 146, 3) := by decide +kernel
theorem dL_law_363 : decode cL_law 363 = .ok (.iconst 0, 1) := by decide +kernel
theorem dL_law_364 : decode cL_law 364 = .ok (.ireturn, 1) := by decide +kernel
theorem dL_law_365 : decode cL_law 365 = .ok (.aload_n 1, 1) := by decide +kernel
theorem dL_law_366 : decode cL_law 366 = .ok (.aload_n 0, 1) := by decide +kernel
theorem dL_law_367 : decode cL_law 367 = .ok (.iload_n 3, 1) := by decide +kernel
theorem dL_law_368 : decode cL_law 368 = .ok (.iconst 1, 1) := by decide +kernel
theorem dL_law_369 : decode cL_law 369 = .ok (.iadd, 1) := by decide +kernel
theorem dL_law_370 : decode cL_law 370 = .ok (.iaload, 1) := by decide +kernel
theorem dL_law_371 : decode cL_law 371 = .ok (.invokevirtual 45, 3) := by decide +kernel
theorem dL_law_374 : decode cL_law 374 = .ok (.aload_n 2, 1) := by decide +kernel
theorem dL_law_375 : decode cL_law 375 = .ok (.aload_n 0, 1) := by decide +kernel
theorem dL_law_376 : decode cL_law 376 = .ok (.iload_n 3, 1) := by decide +kernel
theorem dL_law_377 : decode cL_law 377 = .ok (.iconst 1, 1) := by decide +kernel
theorem dL_law_378 : decode cL_law 378 = .ok (.iadd, 1) := by decide +kernel
theorem dL_law_379 : decode cL_law 379 = .ok (.iaload, 1) := by decide +kernel
theorem dL_law_380 : decode cL_law 380 = .ok (.invokevirtual 48, 3) := by decide +kernel
theorem dL_law_383 : decode cL_law 383 = .ok (.if_icmp .eq 123, 3) := by decide +kernel
theorem dL_law_386 : decode cL_law 386 = .ok (.iconst 0, 1) := by decide +kernel
theorem dL_law_387 : decode cL_law 387 = .ok (.ireturn, 1) := by decide +kernel
theorem dL_law_388 : decode cL_law 388 = .ok (.aload_n 1, 1) := by decide +kernel
theorem dL_law_389 : decode cL_law 389 = .ok (.aload_n 0, 1) := by decide +kernel
theorem dL_law_390 : decode cL_law 390 = .ok (.iload_n 3, 1) := by decide +kernel
theorem dL_law_391 : decode cL_law 391 = .ok (.iconst 1, 1) := by decide +kernel
theorem dL_law_392 : decode cL_law 392 = .ok (.iadd, 1) := by decide +kernel
theorem dL_law_393 : decode cL_law 393 = .ok (.iaload, 1) := by decide +kernel
theorem dL_law_394 : decode cL_law 394 = .ok (.invokevirtual 49, 3) := by decide +kernel
theorem dL_law_397 : decode cL_law 397 = .ok (.aload_n 2, 1) := by decide +kernel
theorem dL_law_398 : decode cL_law 398 = .ok (.aload_n 0, 1) := by decide +kernel
theorem dL_law_399 : decode cL_law 399 = .ok (.iload_n 3, 1) := by decide +kernel
theorem dL_law_400 : decode cL_law 400 = .ok (.iconst 1, 1) := by decide +kernel
theorem dL_law_401 : decode cL_law 401 = .ok (.iadd, 1) := by decide +kernel
theorem dL_law_402 : decode cL_law 402 = .ok (.iaload, 1) := by decide +kernel
theorem dL_law_403 : decode cL_law 403 = .ok (.invokevirtual 52, 3) := by decide +kernel
theorem dL_law_406 : decode cL_law 406 = .ok (.if_icmp .eq 100, 3) := by decide +kernel
theorem dL_law_409 : decode cL_law 409 = .ok (.iconst 0, 1) := by decide +kernel
theorem dL_law_410 : decode cL_law 410 = .ok (.ireturn, 1) := by decide +kernel
theorem dL_law_411 : decode cL_law 411 = .ok (.aload_n 1, 1) := by decide +kernel
theorem dL_law_412 : decode cL_law 412 = .ok (.aload_n 0, 1) := by decide +kernel
theorem dL_law_413 : decode cL_law 413 = .ok (.iload_n 3, 1) := by decide +kernel
theorem dL_law_414 : decode cL_law 414 = .ok (.iconst 1, 1) := by decide +kernel
theorem dL_law_415 : decode cL_law 415 = .ok (.iadd, 1) := by decide +kernel
theorem dL_law_416 : decode cL_law 416 = .ok (.iaload, 1) := by decide +kernel
theorem dL_law_417 : decode cL_law 417 = .ok (.invokevirtual 53, 3) := by decide +kernel
theorem dL_law_420 : decode cL_law 420 = .ok (.aload_n 2, 1) := by decide +kernel
theorem dL_law_421 : decode cL_law 421 = .ok (.aload_n 0, 1) := by decide +kernel
theorem dL_law_422 : decode cL_law 422 = .ok (.iload_n 3, 1) := by decide +kernel
theorem dL_law_423 : decode cL_law 423 = .ok (.iconst 1, 1) := by decide +kernel
theorem dL_law_424 : decode cL_law 424 = .ok (.iadd, 1) := by decide +kernel
theorem dL_law_425 : decode cL_law 425 = .ok (.iaload, 1) := by decide +kernel
theorem dL_law_426 : decode cL_law 426 = .ok (.invokevirtual 56, 3) := by decide +kernel
theorem dL_law_429 : decode cL_law 429 = .ok (.if_icmp .eq 77, 3) := by decide +kernel
theorem dL_law_432 : decode cL_law 432 = .ok (.iconst 0, 1) := by decide +kernel
theorem dL_law_433 : decode cL_law 433 = .ok (.ireturn, 1) := by decide +kernel
theorem dL_law_434 : decode cL_law 434 = .ok (.aload_n 1, 1) := by decide +kernel
theorem dL_law_435 : decode cL_law 435 = .ok (.invokevirtual 57, 3) := by decide +kernel
theorem dL_law_438 : decode cL_law 438 = .ok (.aload_n 2, 1) := by decide +kernel
theorem dL_law_439 : decode cL_law 439 = .ok (.invokevirtual 61, 3) := by decide +kernel
theorem dL_law_442 : decode cL_law 442 = .ok (.if_icmp .eq 64, 3) := by decide +kernel
theorem dL_law_445 : decode cL_law 445 = .ok (.iconst 0, 1) := by decide +kernel
theorem dL_law_446 : decode cL_law 446 = .ok (.ireturn, 1) := by decide +kernel
theorem dL_law_447 : decode cL_law 447 = .ok (.aload_n 1, 1) := by decide +kernel
theorem dL_law_448 : decode cL_law 448 = .ok (.invokevirtual 62, 3) := by decide +kernel
theorem dL_law_451 : decode cL_law 451 = .ok (.aload_n 2, 1) := by decide +kernel
theorem dL_law_452 : decode cL_law 452 = .ok (.invokevirtual 65, 3) := by decide +kernel
theorem dL_law_455 : decode cL_law 455 = .ok (.if_icmp .eq 51, 3) := by decide +kernel
theorem dL_law_458 : decode cL_law 458 = .ok (.iconst 0, 1) := by decide +kernel
theorem dL_law_459 : decode cL_law 459 = .ok (.ireturn, 1) := by decide +kernel
theorem dL_law_460 : decode cL_law 460 = .ok (.aload_n 1, 1) := by decide +kernel
theorem dL_law_461 : decode cL_law 461 = .ok (.aload_n 0, 1) := by decide +kernel
theorem dL_law_462 : decode cL_law 462 = .ok (.iload_n 3, 1) := by decide +kernel
theorem dL_law_463 : decode cL_law 463 = .ok (.iconst 1, 1) := by decide +kernel
theorem dL_law_464 : decode cL_law 464 = .ok (.iadd, 1) := by decide +kernel
theorem dL_law_465 : decode cL_law 465 = .ok (.iaload, 1) := by decide +kernel
theorem dL_law_466 : decode cL_law 466 = .ok (.aload_n 0, 1) := by decide +kernel
theorem dL_law_467 : decode cL_law 467 = .ok (.iload_n 3, 1) := by decide +kernel
theorem dL_law_468 : decode cL_law 468 = .ok (.iconst 2, 1) := by decide +kernel
theorem dL_law_469 : decode cL_law 469 = .ok (.iadd, 1) := by decide +kernel
theorem dL_law_470 : decode cL_law 470 = .ok (.iaload, 1) := by decide +kernel
theorem dL_law_471 : decode cL_law 471 = .ok (.invokevirtual 66, 3) := by decide +kernel
theorem dL_law_474 : decode cL_law 474 = .ok (.aload_n 2, 1) := by decide +kernel
theorem dL_law_475 : decode cL_law 475 = .ok (.aload_n 0, 1) := by decide +kernel
theorem dL_law_476 : decode cL_law 476 = .ok (.iload_n 3, 1) := by decide +kernel
theorem dL_law_477 : decode cL_law 477 = .ok (.iconst 1, 1) := by decide +kernel
theorem dL_law_478 : decode cL_law 478 = .ok (.iadd, 1) := by decide +kernel
theorem dL_law_479 : decode cL_law 479 = .ok (.iaload, 1) := by decide +kernel
theorem dL_law_480 : decode cL_law 480 = .ok (.aload_n 0, 1) := by decide +kernel
theorem dL_law_481 : decode cL_law 481 = .ok (.iload_n 3, 1) := by decide +kernel
theorem dL_law_482 : decode cL_law 482 = .ok (.iconst 2, 1) := by decide +kernel
theorem dL_law_483 : decode cL_law 483 = .ok (.iadd, 1) := by decide +kernel
theorem dL_law_484 : decode cL_law 484 = .ok (.iaload, 1) := by decide +kernel
theorem dL_law_485 : decode cL_law 485 = .ok (.invokevirtual 69, 3) := by decide +kernel
theorem dL_law_488 : decode cL_law 488 = .ok (.if_icmp .eq 18, 3) := by decide +kernel
theorem dL_law_491 : decode cL_law 491 = .ok (.iconst 0, 1) := by decide +kernel
theorem dL_law_492 : decode cL_law 492 = .ok (.ireturn, 1) := by decide +kernel
theorem dL_law_493 : decode cL_law 493 = .ok (.aload_n 1, 1) := by decide +kernel
theorem dL_law_494 : decode cL_law 494 = .ok (.invokevirtual 70, 3) := by decide +kernel
theorem dL_law_497 : decode cL_law 497 = .ok (.aload_n 2, 1) := by decide +kernel
theorem dL_law_498 : decode cL_law 498 = .ok (.invokevirtual 73, 3) := by decide +kernel
theorem dL_law_501 : decode cL_law 501 = .ok (.if_icmp .eq 5, 3) := by decide +kernel
theorem dL_law_504 : decode cL_law 504 = .ok (.iconst 0, 1) := by decide +kernel
theorem dL_law_505 : decode cL_law 505 = .ok (.ireturn, 1) := by decide +kernel
theorem dL_law_506 : decode cL_law 506 = .ok (.iinc 3 4, 3) := by decide +kernel
theorem dL_law_509 : decode cL_law 509 = .ok (.goto (-491), 3) := by decide +kernel
theorem dL_law_512 : decode cL_law 512 = .ok (.iconst 1, 1) := by decide +kernel
theorem dL_law_513 : decode cL_law 513 = .ok (.ireturn, 1) := by decide +kernel
end
section
/-! what the two classes compute, as plain functions: il_ the class, im_ the reference -/
/-- digit i of x, as an int -/
def il_b (x : Int32) (i : Nat) : Int32 := (x >>> (nI i &&& 31)) &&& 1
/-- digit i alone -/
def il_o (i : Nat) : Int32 := (1 : Int32) <<< (nI i &&& 31)
def il_n (x : Int32) : Int32 := x ^^^ (-1)
/-- f 0, then f 1, .. f (n-1) -/
def il_up {α : Type} (f : Nat → α → α) : Nat → α → α
  | 0, a => a
  | n + 1, a => f n (il_up f n a)
/-- f (n-1), .. f 0 -/
def il_dn {α : Type} (f : Nat → α → α) : Nat → α → α
  | 0, a => a
  | n + 1, a => il_dn f n (f n a)
theorem il_up_0 {α : Type} {f : Nat → α → α} {a : α} : il_up f 0 a = a := rfl
theorem il_up_s {α : Type} {f : Nat → α → α} {n : Nat} {a : α} : il_up f (n + 1) a = f n (il_up f n a) := rfl
theorem il_dn_0 {α : Type} {f : Nat → α → α} {a : α} : il_dn f 0 a = a := rfl
theorem il_dn_s {α : Type} {f : Nat → α → α} {n : Nat} {a : α} : il_dn f (n + 1) a = il_dn f n (f n a) := rfl
abbrev il_F : Type := Nat → Int32
def il_bad (x : Int32) : Int32 := if x < 0 then 1 else if x < 12 then 0 else 1
def il_badV (x : Int32) : Int32 := if x < 0 then 1 else if x < 20 then 0 else 1
def il_endS (t : Int32) (lv : il_F) (i : Nat) (a : Int32) : Int32 := if il_b t i = 1 then a ||| lv i else a
def il_end (t : Int32) (lv : il_F) : Int32 := il_up (il_endS t lv) 12 0
def il_due (to us se lv : il_F) (b : Nat) : Int32 := us b ||| (il_end (to b) lv &&& il_n (se b))
def il_spS (to fr us se : il_F) (op : Int32) (i : Nat) (l : il_F) (nx : Int32) : il_F × Int32 :=
  if il_b op i = 1 then (if il_due to us se l i &&& il_n (l i) = 0 then (l, nx) else (upd l i (l i ||| il_due to us se l i), nx ||| fr i)) else (l, nx)
def il_spR (to fr us se : il_F) (l : il_F) (op : Int32) : il_F × Int32 := il_up (fun i st => il_spS to fr us se op i st.1 st.2) 12 (l, 0)
def il_spW (to fr us se : il_F) : Nat → il_F × Int32 → il_F
  | 0, st => st.1
  | n + 1, st => if st.2 = 0 then st.1 else il_spW to fr us se n (il_spR to fr us se st.1 st.2)
def il_spread (to fr us se lv : il_F) (b : Nat) : il_F := il_spW to fr us se 241 (lv, il_o b)
def il_bhS (fr : il_F) (i : Nat) (a : Int32) : Int32 := if il_b a i = 1 then a ||| fr i else a
def il_bhR (fr : il_F) (_ : Nat) (a : Int32) : Int32 := il_up (il_bhS fr) 12 a
def il_behind (fr : il_F) (b : Nat) : Int32 := il_up (il_bhR fr) 12 (il_o b)
def il_shC (reg lost : Int32) (i : Nat) (l : il_F) : il_F := if il_b reg i = 1 then upd l i (l i &&& il_n lost) else l
def il_shS (to us se : il_F) (reg lost : Int32) (i : Nat) (l : il_F) (mo : Int32) : il_F × Int32 :=
  if il_b reg i = 1 then (if (il_due to us se l i &&& lost) &&& il_n (l i) = 0 then (l, mo) else (upd l i (l i ||| (il_due to us se l i &&& lost)), 1)) else (l, mo)
def il_shR (to us se : il_F) (reg lost : Int32) (l : il_F) : il_F × Int32 := il_dn (fun i st => il_shS to us se reg lost i st.1 st.2) 12 (l, 0)
def il_shW (to us se : il_F) (reg lost : Int32) : Nat → il_F × Int32 → il_F
  | 0, st => st.1
  | n + 1, st => if st.2 = 0 then st.1 else il_shW to us se reg lost n (il_shR to us se reg lost st.1)
def il_shrink (to fr us se lv : il_F) (b : Nat) (some : Int32) : il_F :=
  if some &&& lv b = 0 then lv else il_shW to us se (il_behind fr b) (some &&& lv b) 241 (il_up (il_shC (il_behind fr b) (some &&& lv b)) 12 lv, 1)
abbrev il_S3 : Type := il_F × il_F × il_F
/-- arcs from, arcs to, live -/
def il_join (us se : il_F) (a b : Nat) (st : il_S3) : il_S3 :=
  if il_b (st.1 a) b = 0 then (upd st.1 a (st.1 a ||| il_o b), upd st.2.1 b (st.2.1 b ||| il_o a), il_spread (upd st.1 a (st.1 a ||| il_o b)) (upd st.2.1 b (st.2.1 b ||| il_o a)) us se st.2.2 a) else st
def il_part (us se : il_F) (a b : Nat) (st : il_S3) : il_S3 :=
  if il_b (st.1 a) b = 1 then (upd st.1 a (st.1 a &&& il_n (il_o b)), upd st.2.1 b (st.2.1 b &&& il_n (il_o a)), il_shrink (upd st.1 a (st.1 a &&& il_n (il_o b))) (upd st.2.1 b (st.2.1 b &&& il_n (il_o a))) us se st.2.2 a 1048575) else st
def il_arcS (us se : il_F) (a b : Nat) (on : Int32) (st : il_S3) : il_S3 := if on = 0 then il_part us se a b st else il_join us se a b st
def il_nat (x : Int32) : Nat := x.toNatClampNeg
def il_arc (us se : il_F) (a b on : Int32) (st : il_S3) : il_S3 := if il_bad a = 0 then (if il_bad b = 0 then il_arcS us se (il_nat a) (il_nat b) on st else st) else st
def il_arcR (to : il_F) (a b : Int32) : Int32 := if il_bad a = 0 then (if il_bad b = 0 then il_b (to (il_nat a)) (il_nat b) else -1) else -1
def il_hasArc (to : il_F) (a b : Int32) : Int32 := if il_bad a = 0 then (if il_bad b = 0 then (if il_b (to (il_nat a)) (il_nat b) = 1 then 1 else 0) else 0) else 0
/-- live behind a change of uses and sets of b -/
def il_change (to fr us se lv : il_F) (b : Nat) (nu ns : Int32) : il_F :=
  il_spread to fr (upd us b nu) (upd se b ns) (il_shrink to fr (upd us b nu) (upd se b ns) lv b ((us b &&& il_n nu) ||| (ns &&& il_n (se b)))) b
/-- the digit v of x put on or off -/
def il_put (x : Int32) (v : Nat) (on : Int32) : Int32 := if on = 0 then x &&& il_n (il_o v) else (x &&& il_n (il_o v)) ||| il_o v
/-- uses, sets, live -/
def il_useS (to fr : il_F) (b v : Nat) (on : Int32) (st : il_S3) : il_S3 := (upd st.1 b (il_put (st.1 b) v on), upd st.2.1 b (st.2.1 b), il_change to fr st.1 st.2.1 st.2.2 b (il_put (st.1 b) v on) (st.2.1 b))
def il_setS (to fr : il_F) (b v : Nat) (on : Int32) (st : il_S3) : il_S3 := (upd st.1 b (st.1 b), upd st.2.1 b (il_put (st.2.1 b) v on), il_change to fr st.1 st.2.1 st.2.2 b (st.1 b) (il_put (st.2.1 b) v on))
def il_use (to fr : il_F) (b v on : Int32) (st : il_S3) : il_S3 := if il_bad b = 0 then (if il_badV v = 0 then il_useS to fr (il_nat b) (il_nat v) on st else st) else st
def il_set (to fr : il_F) (b v on : Int32) (st : il_S3) : il_S3 := if il_bad b = 0 then (if il_badV v = 0 then il_setS to fr (il_nat b) (il_nat v) on st else st) else st
def il_digR (f : il_F) (b v : Int32) : Int32 := if il_bad b = 0 then (if il_badV v = 0 then il_b (f (il_nat b)) (il_nat v) else -1) else -1
def il_okB (b u w : Int32) : Prop := il_bad b = 0 ∧ ¬ u < 0 ∧ ¬ 1048575 < u ∧ ¬ w < 0 ∧ w ≤ 1048575
def il_block (to fr : il_F) (b u w : Int32) (st : il_S3) : il_S3 :=
  if il_bad b = 0 then (if u < 0 then st else if 1048575 < u then st else if w < 0 then st else if w ≤ 1048575 then (upd st.1 (il_nat b) u, upd st.2.1 (il_nat b) w, il_change to fr st.1 st.2.1 st.2.2 (il_nat b) u w) else st) else st
def il_blockR (b u w : Int32) : Int32 := if il_bad b = 0 then (if u < 0 then -1 else if 1048575 < u then -1 else if w < 0 then -1 else if w ≤ 1048575 then 0 else -1) else -1
def il_cutS (us se : il_F) (b i : Nat) (n : Int32) (st : il_S3) : Int32 × il_S3 :=
  ((n + il_b (st.1 b) i) + il_b ((il_part us se b i st).1 i) b, il_part us se i b (il_part us se b i st))
def il_cutL (us se : il_F) (b : Nat) (k : Nat) (st : il_S3) : Int32 × il_S3 := il_up (fun i x => il_cutS us se b i x.1 x.2) k (0, st)
def il_cutOff (us se : il_F) (b : Int32) (st : il_S3) : il_S3 := if il_bad b = 0 then (il_cutL us se (il_nat b) 12 st).2 else st
def il_cutOffR (us se : il_F) (b : Int32) (st : il_S3) : Int32 := if il_bad b = 0 then (il_cutL us se (il_nat b) 12 st).1 else -1
def il_tkS (us se : il_F) (b d i : Nat) (n : Int32) (st : il_S3) : Int32 × il_S3 :=
  if il_b (st.1 d) i = 1 then ((n + 1) - il_b ((il_part us se d i st).1 b) i, il_join us se b i (il_part us se d i st)) else (n, st)
def il_tkL (us se : il_F) (b d : Nat) (k : Nat) (st : il_S3) : Int32 × il_S3 := il_up (fun i x => il_tkS us se b d i x.1 x.2) k (0, st)
def il_takeOver (us se : il_F) (b d : Int32) (st : il_S3) : il_S3 := if il_bad b = 0 then (if il_bad d = 0 then (if b = d then st else (il_tkL us se (il_nat b) (il_nat d) 12 st).2) else st) else st
def il_takeOverR (us se : il_F) (b d : Int32) (st : il_S3) : Int32 := if il_bad b = 0 then (if il_bad d = 0 then (if b = d then -1 else (il_tkL us se (il_nat b) (il_nat d) 12 st).1) else -1) else -1
def il_liveIn (lv : il_F) (b : Int32) : Int32 := if il_bad b = 0 then lv (il_nat b) else -1
def il_liveOut (to lv : il_F) (b : Int32) : Int32 := if il_bad b = 0 then il_end (to (il_nat b)) lv else -1
def il_lbS (lv : il_F) (v : Nat) (i : Nat) (a : Int32) : Int32 := if il_b (lv i) v = 1 then a ||| il_o i else a
def il_liveBlocks (lv : il_F) (v : Int32) : Int32 := if il_badV v = 0 then il_up (il_lbS lv (il_nat v)) 12 0 else -1
def il_szS (x : Int32) (i : Nat) (a : Int32) : Int32 := a + il_b x i
def il_size (x : Int32) : Int32 := il_up (il_szS x) 20 0
def il_idS (to se lv : il_F) (i : Nat) (a : Int32) : Int32 := a + il_size (se i &&& il_n (il_end (to i) lv))
def il_idle (to se lv : il_F) : Int32 := il_up (il_idS to se lv) 12 0
def il_prS (lv : il_F) (i : Nat) (a : Int32) : Int32 := if il_size (lv i) ≤ a then a else il_size (lv i)
def il_press (lv : il_F) : Int32 := il_up (il_prS lv) 12 0
def il_rcS (fr se : il_F) (v : Nat) (op : Int32) (i : Nat) (a : Int32) : Int32 := if il_b op i = 1 then (if il_b (se i) v = 0 then a ||| fr i else a) else a
def il_rcN (fr se : il_F) (v : Nat) (op : Int32) : Int32 := il_up (il_rcS fr se v op) 12 0
/-- seen, behind at most n rounds -/
def il_rcW (fr se : il_F) (v : Nat) : Nat → Int32 → Int32 → Int32
  | 0, seen, _ => seen
  | n + 1, seen, op => if op = 0 then seen else il_rcW fr se v n (seen ||| op) (il_rcN fr se v op &&& il_n (seen ||| op))
def il_reS (se : il_F) (v : Nat) (seen : Int32) (i : Nat) (a : Int32) : Int32 := if il_b seen i = 1 then (if il_b (se i) v = 1 then a ||| il_o i else a) else a
def il_reF (fr se : il_F) (b v : Nat) : Int32 := il_up (il_reS se v (il_rcW fr se v 13 0 (fr b))) 12 0
def il_reach (fr se : il_F) (b v : Int32) : Int32 := if il_bad b = 0 then (if il_badV v = 0 then il_reF fr se (il_nat b) (il_nat v) else -1) else -1
def il_toS (lv : il_F) (v : Nat) (i : Nat) (a : Int32) : Int32 := if il_b (lv i) v = 1 then a ||| lv i else a
def il_tog (lv : il_F) (v : Nat) : Int32 := il_up (il_toS lv v) 12 0
def il_crS (lv : il_F) (i : Nat) (a : Int32) : Int32 := a + il_size (il_tog lv i >>> ((nI i + 1) &&& 31))
def il_crowd (lv : il_F) : Int32 := il_up (il_crS lv) 20 0
/-! the reference -/
def im_isB (x : Int32) : Int32 := if x < 0 then 0 else if 11 < x then 0 else 1
def im_isV (x : Int32) : Int32 := if x < 0 then 0 else if 19 < x then 0 else 1
def im_has (x : Int32) (i : Nat) : Int32 := if il_b x i = 1 then 1 else 0
def im_szS (x : Int32) (i : Nat) (a : Int32) : Int32 := if im_has x i = 0 then a else a + 1
def im_size (x : Int32) : Int32 := il_up (im_szS x) 20 0
def im_put (x : Int32) (v : Nat) (on : Int32) : Int32 := if on = 0 then x &&& il_n (il_o v) else x ||| il_o v
def im_arc (nx : il_F) (a b on : Int32) : il_F := if im_isB a = 0 then nx else if im_isB b = 0 then nx else upd nx (il_nat a) (im_put (nx (il_nat a)) (il_nat b) on)
def im_arcR (nx : il_F) (a b : Int32) : Int32 := if im_isB a = 0 then -1 else if im_isB b = 0 then -1 else il_b (nx (il_nat a)) (il_nat b)
def im_hasArc (nx : il_F) (a b : Int32) : Int32 := if im_isB a = 0 then 0 else if im_isB b = 0 then 0 else if im_has (nx (il_nat a)) (il_nat b) = 0 then 0 else 1
def im_use (us : il_F) (b v on : Int32) : il_F := if im_isB b = 0 then us else if im_isV v = 0 then us else upd us (il_nat b) (im_put (us (il_nat b)) (il_nat v) on)
def im_useR (us : il_F) (b v : Int32) : Int32 := if im_isB b = 0 then -1 else if im_isV v = 0 then -1 else il_b (us (il_nat b)) (il_nat v)
def im_blockR (b u w : Int32) : Int32 := if im_isB b = 0 then -1 else if u < 0 then -1 else if 1048575 < u then -1 else if w < 0 then -1 else if w ≤ 1048575 then 0 else -1
def im_blockU (us : il_F) (b u w : Int32) : il_F := if im_isB b = 0 then us else if u < 0 then us else if 1048575 < u then us else if w < 0 then us else if w ≤ 1048575 then upd us (il_nat b) u else us
def im_blockS (se : il_F) (b u w : Int32) : il_F := if im_isB b = 0 then se else if u < 0 then se else if 1048575 < u then se else if w < 0 then se else if w ≤ 1048575 then upd se (il_nat b) w else se
def im_cutS (b i : Nat) (n : Int32) (nx : il_F) : Int32 × il_F := (if im_has (nx i) b = 0 then n else n + 1, upd nx i (nx i &&& il_n (il_o b)))
def im_cutL (b k : Nat) (nx : il_F) : Int32 × il_F := il_up (fun i x => im_cutS b i x.1 x.2) k (im_size (nx b), upd nx b 0)
def im_cutOff (nx : il_F) (b : Int32) : il_F := if im_isB b = 0 then nx else (im_cutL (il_nat b) 12 nx).2
def im_cutOffR (nx : il_F) (b : Int32) : Int32 := if im_isB b = 0 then -1 else (im_cutL (il_nat b) 12 nx).1
def im_tk (nx : il_F) (b d : Nat) : il_F := upd (upd nx b (nx b ||| nx d)) d 0
def im_takeOver (nx : il_F) (b d : Int32) : il_F := if im_isB b = 0 then nx else if im_isB d = 0 then nx else if b = d then nx else im_tk nx (il_nat b) (il_nat d)
def im_takeOverR (nx : il_F) (b d : Int32) : Int32 := if im_isB b = 0 then -1 else if im_isB d = 0 then -1 else if b = d then -1 else im_size (nx (il_nat d) &&& il_n (nx (il_nat b)))
def im_bhS (t : Int32) (lv : il_F) (i : Nat) (a : Int32) : Int32 := if im_has t i = 0 then a else a ||| lv i
def im_behind (nx lv : il_F) (b : Nat) : Int32 := il_up (im_bhS (nx b) lv) 12 0
def im_cpS (us : il_F) (i : Nat) (l : il_F) : il_F := upd l i (us i)
def im_spS (nx se : il_F) (i : Nat) (l : il_F) : il_F := upd l i (l i ||| (im_behind nx l i &&& il_n (se i)))
def im_spR (nx se : il_F) (_ : Nat) (l : il_F) : il_F := il_up (im_spS nx se) 12 l
def im_spread (nx us se lv : il_F) : il_F := il_up (im_spR nx se) 12 (il_up (im_cpS us) 12 lv)
def im_liveInL (nx us se lv : il_F) (b : Int32) : il_F := if im_isB b = 0 then lv else im_spread nx us se lv
def im_liveIn (nx us se lv : il_F) (b : Int32) : Int32 := if im_isB b = 0 then -1 else im_spread nx us se lv (il_nat b)
def im_liveOut (nx us se lv : il_F) (b : Int32) : Int32 := if im_isB b = 0 then -1 else im_behind nx (im_spread nx us se lv) (il_nat b)
def im_lbS (lv : il_F) (v : Nat) (i : Nat) (a : Int32) : Int32 := if im_has (lv i) v = 0 then a else a ||| il_o i
def im_liveBlocksL (nx us se lv : il_F) (v : Int32) : il_F := if im_isV v = 0 then lv else im_spread nx us se lv
def im_liveBlocks (nx us se lv : il_F) (v : Int32) : Int32 := if im_isV v = 0 then -1 else il_up (im_lbS (im_spread nx us se lv) (il_nat v)) 12 0
def im_idS (nx se lv : il_F) (i : Nat) (a : Int32) : Int32 := a + im_size (se i &&& il_n (im_behind nx lv i))
def im_idle (nx us se lv : il_F) : Int32 := il_up (im_idS nx se (im_spread nx us se lv)) 12 0
def im_prS (lv : il_F) (i : Nat) (a : Int32) : Int32 := if im_size (lv i) ≤ a then a else im_size (lv i)
def im_press (nx us se lv : il_F) : Int32 := il_up (im_prS (im_spread nx us se lv)) 12 0
def im_faS (nx se : il_F) (v : Nat) (i : Nat) (a : Int32) : Int32 := if im_has a i = 0 then a else if im_has (se i) v = 0 then a ||| nx i else a
def im_faR (nx se : il_F) (v : Nat) (_ : Nat) (a : Int32) : Int32 := il_up (im_faS nx se v) 12 a
def im_far (nx se : il_F) (b v : Nat) : Int32 := il_up (im_faR nx se v) 12 (nx b)
def im_reS (nx se : il_F) (b v : Nat) (i : Nat) (a : Int32) : Int32 := if im_has (se i) v = 0 then a else if im_has (im_far nx se i v) b = 0 then a else a ||| il_o i
def im_reF (nx se : il_F) (b v : Nat) : Int32 := il_up (im_reS nx se b v) 12 0
def im_reach (nx se : il_F) (b v : Int32) : Int32 := if im_isB b = 0 then -1 else if im_isV v = 0 then -1 else im_reF nx se (il_nat b) (il_nat v)
def im_beS (lv : il_F) (v : Nat) (i : Nat) (a : Int32) : Int32 := if im_has (lv i) v = 0 then a else a ||| lv i
def im_beside (lv : il_F) (v : Nat) : Int32 := il_up (im_beS lv v) 12 0 &&& il_n (il_o v)
def im_crS (lv : il_F) (i : Nat) (a : Int32) : Int32 := a + im_size (im_beside lv i)
def im_crowd (nx us se lv : il_F) : Int32 := il_up (im_crS (im_spread nx us se lv)) 20 0 / 2
/-! numbers -/
theorem il_ge {i N : Nat} (h : nI N ≤ nI i) (hN : N < 2 ^ 31) (hi : i < 2 ^ 31) : N ≤ i := (nI_leI hN hi).mp h
theorem il_nge {i N : Nat} (h : ¬ nI N ≤ nI i) (hi : i < 2 ^ 31) : i < N := by
  rcases Nat.lt_or_ge i N with q | q
  · exact q
  · exact absurd (nI_le q hi) h
theorem il_gt {i N : Nat} (h : nI N < nI i) (hN : N < 2 ^ 31) (hi : i < 2 ^ 31) : N < i := (nI_ltI hN hi).mp h
theorem il_ngt {i N : Nat} (h : ¬ nI N < nI i) (hN : N < 2 ^ 31) (hi : i < 2 ^ 31) : i ≤ N := by
  rcases Nat.lt_or_ge N i with q | q
  · exact absurd ((nI_ltI hN hi).mpr q) h
  · exact q
theorem il_nat_nI {i : Nat} (h : i < 2 ^ 31) : il_nat (nI i) = i := nI_clamp h
theorem il_rng {x : Int32} {N : Nat} (hN : N < 2 ^ 31) (h0 : ¬ x < 0) (h1 : x < nI N) : ∃ i, i < N ∧ x = nI i := by
  obtain ⟨j, hj, rfl⟩ := nI_of h0
  exact ⟨j, (nI_ltI hj hN).mp h1, rfl⟩
theorem il_bad_in {x : Int32} (h : il_bad x = 0) : ∃ i, i < 12 ∧ x = nI i := by
  unfold il_bad at h
  by_cases h0 : x < 0
  · rw [if_pos h0] at h; exact absurd h (by decide)
  · rw [if_neg h0] at h
    by_cases h1 : x < 12
    · exact il_rng (by decide) h0 h1
    · rw [if_neg h1] at h; exact absurd h (by decide)
theorem il_badV_in {x : Int32} (h : il_badV x = 0) : ∃ i, i < 20 ∧ x = nI i := by
  unfold il_badV at h
  by_cases h0 : x < 0
  · rw [if_pos h0] at h; exact absurd h (by decide)
  · rw [if_neg h0] at h
    by_cases h1 : x < 20
    · exact il_rng (by decide) h0 h1
    · rw [if_neg h1] at h; exact absurd h (by decide)
theorem il_bad_nI {i : Nat} (h : i < 12) : il_bad (nI i) = 0 := by
  unfold il_bad
  rw [if_neg (nI_pos (by omega)), if_pos (show nI i < (12 : Int32) from nI_lt (b := 12) h (by decide))]
theorem il_badV_nI {i : Nat} (h : i < 20) : il_badV (nI i) = 0 := by
  unfold il_badV
  rw [if_neg (nI_pos (by omega)), if_pos (show nI i < (20 : Int32) from nI_lt (b := 20) h (by decide))]
theorem im_isB_in {x : Int32} (h : ¬ im_isB x = 0) : ∃ i, i < 12 ∧ x = nI i := by
  unfold im_isB at h
  by_cases h0 : x < 0
  · rw [if_pos h0] at h; exact absurd rfl h
  · rw [if_neg h0] at h
    by_cases h1 : 11 < x
    · rw [if_pos h1] at h; exact absurd rfl h
    · obtain ⟨j, hj, rfl⟩ := nI_of h0
      exact ⟨j, Nat.lt_succ_of_le (il_ngt (N := 11) h1 (by decide) hj), rfl⟩
theorem im_isV_in {x : Int32} (h : ¬ im_isV x = 0) : ∃ i, i < 20 ∧ x = nI i := by
  unfold im_isV at h
  by_cases h0 : x < 0
  · rw [if_pos h0] at h; exact absurd rfl h
  · rw [if_neg h0] at h
    by_cases h1 : 19 < x
    · rw [if_pos h1] at h; exact absurd rfl h
    · obtain ⟨j, hj, rfl⟩ := nI_of h0
      exact ⟨j, Nat.lt_succ_of_le (il_ngt (N := 19) h1 (by decide) hj), rfl⟩
theorem im_isB_nI {i : Nat} (h : i < 12) : ¬ im_isB (nI i) = 0 := by
  unfold im_isB
  rw [if_neg (nI_pos (by omega)), if_neg (show ¬ (11 : Int32) < nI i from nI_nlt (a := 11) (by omega) (by omega))]
  decide
theorem im_isV_nI {i : Nat} (h : i < 20) : ¬ im_isV (nI i) = 0 := by
  unfold im_isV
  rw [if_neg (nI_pos (by omega)), if_neg (show ¬ (19 : Int32) < nI i from nI_nlt (a := 19) (by omega) (by omega))]
  decide
/-- the loops that may stop early -/
theorem il_spW_0 {to fr us se : il_F} {l : il_F} {op : Int32} {n : Nat} (h : op = 0) : il_spW to fr us se n (l, op) = l := by
  cases n with
  | zero => rfl
  | succ n => exact if_pos h
theorem il_spW_s {to fr us se : il_F} {l : il_F} {op : Int32} {n : Nat} (h : ¬ op = 0) : il_spW to fr us se (n + 1) (l, op) = il_spW to fr us se n (il_spR to fr us se l op) := if_neg h
theorem il_shW_0 {to us se : il_F} {reg lost : Int32} {l : il_F} {mo : Int32} {n : Nat} (h : mo = 0) : il_shW to us se reg lost n (l, mo) = l := by
  cases n with
  | zero => rfl
  | succ n => exact if_pos h
theorem il_shW_s {to us se : il_F} {reg lost : Int32} {l : il_F} {mo : Int32} {n : Nat} (h : ¬ mo = 0) : il_shW to us se reg lost (n + 1) (l, mo) = il_shW to us se reg lost n (il_shR to us se reg lost l) := if_neg h
theorem il_rcW_0 {fr se : il_F} {v n : Nat} {seen op : Int32} (h : op = 0) : il_rcW fr se v n seen op = seen := by
  cases n with
  | zero => rfl
  | succ n => exact if_pos h
theorem il_rcW_s {fr se : il_F} {v n : Nat} {seen op : Int32} (h : ¬ op = 0) : il_rcW fr se v (n + 1) seen op = il_rcW fr se v n (seen ||| op) (il_rcN fr se v op &&& il_n (seen ||| op)) := if_neg h
theorem il_spW_z {to fr us se : il_F} {l : il_F} {op : Int32} : il_spW to fr us se 0 (l, op) = l := rfl
theorem il_shW_z {to us se : il_F} {reg lost : Int32} {l : il_F} {mo : Int32} : il_shW to us se reg lost 0 (l, mo) = l := rfl
theorem il_rcW_z {fr se : il_F} {v : Nat} {seen op : Int32} : il_rcW fr se v 0 seen op = seen := rfl
theorem il_join_f {us se to fr lv : il_F} {a b : Nat} (h : ¬ il_b (to a) b = 0) : il_join us se a b (to, fr, lv) = (to, fr, lv) := if_neg h
theorem il_join_t {us se to fr lv : il_F} {a b : Nat} (h : il_b (to a) b = 0) : il_join us se a b (to, fr, lv) = (upd to a (to a ||| il_o b), upd fr b (fr b ||| il_o a), il_spread (upd to a (to a ||| il_o b)) (upd fr b (fr b ||| il_o a)) us se lv a) := if_pos h
theorem il_part_f {us se to fr lv : il_F} {a b : Nat} (h : ¬ il_b (to a) b = 1) : il_part us se a b (to, fr, lv) = (to, fr, lv) := if_neg h
theorem il_part_t {us se to fr lv : il_F} {a b : Nat} (h : il_b (to a) b = 1) : il_part us se a b (to, fr, lv) = (upd to a (to a &&& il_n (il_o b)), upd fr b (fr b &&& il_n (il_o a)), il_shrink (upd to a (to a &&& il_n (il_o b))) (upd fr b (fr b &&& il_n (il_o a))) us se lv a 1048575) := if_pos h
theorem il_tkS_t {us se to fr lv : il_F} {b d i : Nat} {n : Int32} (h : il_b (to d) i = 1) : il_tkS us se b d i n (to, fr, lv) = ((n + 1) - il_b ((il_part us se d i (to, fr, lv)).1 b) i, il_join us se b i (il_part us se d i (to, fr, lv))) := if_pos h
theorem il_tkS_f {us se to fr lv : il_F} {b d i : Nat} {n : Int32} (h : ¬ il_b (to d) i = 1) : il_tkS us se b d i n (to, fr, lv) = (n, to, fr, lv) := if_neg h
end
section
/-! the two worlds, and rows that the walks use again and again -/
abbrev vwCl : List vw_C := [(RX0, TX0, 5), (RX1, TX1, 4)]
/-- an object of the class with its five arrays -/
abbrev WX (h q1 q2 q3 q4 q5 : Nat) (d : ClassId) (to fr us se lv : il_F) : va_W := [(h, .inr (0, [.ref q1, .ref q2, .ref q3, .ref q4, .ref q5])), (q1, .inl (d, 12, .inl to)), (q2, .inl (d, 12, .inl fr)), (q3, .inl (d, 12, .inl us)), (q4, .inl (d, 12, .inl se)), (q5, .inl (d, 12, .inl lv))]
/-- an object of the reference with its four arrays -/
abbrev WY (h q1 q2 q3 q4 : Nat) (d : ClassId) (nx us se lv : il_F) : va_W := [(h, .inr (1, [.ref q1, .ref q2, .ref q3, .ref q4])), (q1, .inl (d, 12, .inl nx)), (q2, .inl (d, 12, .inl us)), (q3, .inl (d, 12, .inl se)), (q4, .inl (d, 12, .inl lv))]
abbrev il_PR (dC : Nat → ClassId) (dI : Nat → Nat → Nat) (ws : va_W) (d : ClassId) (av : List Value) : Array Value → State → Prop := va_Pc av (fun U => va_P (dC, dI) vwCl ws U.heap ∧ va_K (dC, dI) vwCl [(d, .int)] U)
abbrev il_PM (dC : Nat → ClassId) (dI : Nat → Nat → Nat) (ws : va_W) (d : ClassId) (sz : Nat) (av : List Value) : Array Value → State → Prop := va_Pc av (fun U => U.heap.size = sz ∧ va_P (dC, dI) vwCl ws U.heap ∧ va_K (dC, dI) vwCl [(d, .int)] U ∧ va_D (fun _ => True) ws)
abbrev il_B (dC : Nat → ClassId) (dI : Nat → Nat → Nat) (A : Nat → Prop) (ws : va_W) (d : ClassId) (_ : Unit) (t : State) : Prop := va_P (dC, dI) vwCl ws t.heap ∧ va_K (dC, dI) vwCl [(d, .int)] t ∧ va_D A ws
abbrev il_rm (f n : Nat) : Room := { frames := f, cells := 0, slots := 0, locals := n }
section ILR
variable {p : Program} {l : Launch} {e : Env} {R : Room} {s : State} {m : MethodId} {args : Array Value} {below : List Frame} {meth : Method} {c : Code} {H : Heap} {locs : List Loc} {cells slots : Nat} {Q : State → Prop}
variable {cc : ByteArray} {pc : Nat} {ls : Array Slot} {rest st0 : List Value} {A : Nat → Prop} {ws : va_W} {H0 : Heap} {dC : Nat → ClassId} {dI : Nat → Nat → Nat} {d : ClassId} {b : Nat} {As : List Value}
theorem il_entry {vs : List Value} {n : Nat} (h : (lg_sl vs).length ≤ n) (hargs : args = vs.toArray) (kk : ∀ ls : Array Slot, lv_has ls n (lv_args 0 vs) → W p l e R s m args below meth c H locs cells slots Q (F0 m 0 ls [])) : W p l e R s m args below meth c H locs cells slots Q (entryFrame m args n) := by
  have h2 := kk _ (lv_entry vs h)
  subst hargs
  rw [lg_entry_eq]
  exact h2
theorem il_ld (hexec : p.tables.exec = Jvm.exec) (hb : c.code = cc) {D : va_G} {cl : List vw_C} {tys : List (ClassId × FieldType)} {a : Nat} (hK : va_K D cl tys s) (hP : va_P D cl ws H) (q0 t0 : Nat) {cA : ClassId} {n : Nat} {f : il_F} (ha : ws[q0]? = some (a, .inl (cA, n, .inl f))) (ht : tys[t0]? = some (cA, .int)) {j : Nat} (hj : j < n) (hn : n < 2 ^ 31) (hdg : decode cc pc = .ok (.iaload, 1))
    (kk : W p l e R s m args below meth c H locs cells slots Q (F0 m (pc + 1) ls (.int (f j) :: rest))) : W p l e R s m args below meth c H locs cells slots Q (F0 m pc ls (.int (nI j) :: .ref a :: rest)) := by
  refine va_iald hexec hb hK hP q0 t0 ha ht (vp_in_nI hj hn) hdg ?_
  rw [nI_clamp (Nat.lt_trans hj hn)]
  exact kk
theorem il_st (hexec : p.tables.exec = Jvm.exec) (hb : c.code = cc) {D : va_G} {cl : List vw_C} {tys : List (ClassId × FieldType)} {a : Nat} (hK : va_K D cl tys s) (hP : va_P D cl ws H) (hD : va_D A ws) (hS : va_S A H0 H locs) (q0 t0 : Nat) {cA : ClassId} {n : Nat} {f : il_F} (ha : ws[q0]? = some (a, .inl (cA, n, .inl f))) (ht : tys[t0]? = some (cA, .int)) {j : Nat} {x : Int32} (hj : j < n) (hn : n < 2 ^ 31) (hdg : decode cc pc = .ok (.iastore, 1))
    (kk : ∀ (H1 : Heap) (locs1 : List Loc), va_P D cl (ws.set q0 (a, .inl (cA, n, .inl (upd f j x)))) H1 → va_D A (ws.set q0 (a, .inl (cA, n, .inl (upd f j x)))) → va_S A H0 H1 locs1 → W p l e R s m args below meth c H1 locs1 cells slots Q (F0 m (pc + 1) ls rest)) : W p l e R s m args below meth c H locs cells slots Q (F0 m pc ls (.int x :: .int (nI j) :: .ref a :: rest)) := by
  refine va_iast hexec hb hK hP hD hS q0 t0 ha ht (vp_in_nI hj hn) hdg (fun H1 locs1 h1 h2 h3 => ?_)
  rw [nI_clamp (Nat.lt_trans hj hn)] at h1 h2
  exact kk H1 locs1 h1 h2 h3
theorem il_blR {av : List Value} : FrameBlind (il_PR dC dI ws d av) := fun a U g mk q => ⟨q.1, q.2.1, va_K.moved (u := U) (U := U.calling g mk a) (Vm.Alike.refl U.vm) q.2.2⟩
theorem il_blM {av : List Value} {sz : Nat} : FrameBlind (il_PM dC dI ws d sz av) := fun a U g mk q => ⟨q.1, q.2.1, q.2.2.1, va_K.moved (u := U) (U := U.calling g mk a) (Vm.Alike.refl U.vm) q.2.2.2.1, q.2.2.2.2⟩
theorem il_preR {ci : Nat} {q : vw_C} {fs : List Value} (hK : va_K (dC, dI) vwCl [(d, .int)] s) (hP : va_P (dC, dI) vwCl ws H) (hc : vwCl[ci]? = some q) (he : ws[0]? = some (b, .inr (ci, fs))) : PreV s H q.1 b (il_PR dC dI ws d (.ref b :: As)) As :=
  ⟨il_blR, va_recv hK hP hc he, fun U hU hW => ⟨rfl, by rw [hU]; exact hP, va_K.moved hW.alike hK⟩⟩
theorem il_preM {ci : Nat} {q : vw_C} {fs : List Value} (hK : va_K (dC, dI) vwCl [(d, .int)] s) (hP : va_P (dC, dI) vwCl ws H) (hD : va_D A ws) (hc : vwCl[ci]? = some q) (he : ws[0]? = some (b, .inr (ci, fs))) : PreV s H q.1 b (il_PM dC dI ws d H.size (.ref b :: As)) As :=
  ⟨il_blM, va_recv hK hP hc he, fun U hU hW => ⟨rfl, by rw [hU], by rw [hU]; exact hP, va_K.moved hW.alike hK, hD.weaken (fun _ _ _ _ => trivial)⟩⟩
/-- a call that only reads and answers an int -/
theorem il_callR {y : MethodName} {bytes : ByteArray} {maxL nL n index : Nat} {ret : Option FieldType} {wsy Ts : List Cond} {rm : Room} {own : String} {v : Int32} {q : vw_C} {fs : List Value} (S : CallFix p m c cc nL s args Ts own) (hK : va_K (dC, dI) vwCl [(d, .int)] s) (hP : va_P (dC, dI) vwCl ws H) (ci : Nat) (hc : vwCl[ci]? = some q) (he : ws[0]? = some (b, .inr (ci, fs)))
    (hM : Met l y wsy rm (il_PR dC dI ws d (.ref b :: As)) (vp_Si (fun r => r = v)) 0 0 (fun _ => False)) (cw : CallW R s args own q.1 index y bytes maxL ret wsy rm 0 0 n) (hn : As.length = n) (hsize : ls.size = nL) (hroom : (rest.map fun v => v.category).sum ≤ 8) (hdg : decode cc pc = .ok (.invokevirtual index, 3)) (hf : cells + 0 ≤ R.cells ∧ slots + 0 ≤ R.slots) (hst : st0 = As.reverse ++ .ref b :: rest)
    (kk : W p l e R s m args below meth c H locs cells slots Q (F0 m (pc + 3) ls (.int v :: rest))) : W p l e R s m args below meth c H locs cells slots Q (F0 m pc ls st0) := by
  subst hst
  refine vp_callSi (va_Run.run (va_runV (As := As) (rest := rest) S hM cw (il_preR hK hP hc he) rfl hn hsize rfl (lv_room hroom) hdg hf)) (fun r hr => ?_)
  subst hr
  exact kk
/-- a call that changes its own cells, of the caller's wider world w0: isC, isR the places of its cells and of the rest -/
theorem il_callMv {y : MethodName} {bytes : ByteArray} {maxL nL n index : Nat} {ret : Option FieldType} {wsy Ts : List Cond} {rm : Room} {own : String} {q : vw_C} {fs : List Value} {w0 wr ws1 : va_W} (S : CallFix p m c cc nL s args Ts own) (hK : va_K (dC, dI) vwCl [(d, .int)] s) (hP0 : va_P (dC, dI) vwCl w0 H) (hD0 : va_D A w0) (hS : va_S A s.heap H locs) (hA : ∀ q : Nat, s.heap.size ≤ q → A q) (isC isR : List Nat) (hC : isC.map (fun i => w0[i]?) = ws.map some) (hR : isR.map (fun i => w0[i]?) = wr.map some) (hnC : va_nd isC = true) (hnR : va_nd isR = true) (hdis : ∀ i ∈ isR, i ∉ isC) (hPc : va_P (dC, dI) vwCl ws H) (ci : Nat) (hc : vwCl[ci]? = some q) (he : ws[0]? = some (b, .inr (ci, fs)))
    (hM : Met l y wsy rm (il_PM dC dI ws d H.size (.ref b :: As)) (va_Qv (fun _ : Unit => True) (il_B dC dI (va_A ws H.size) ws1 d) (va_A ws H.size)) 0 0 (va_A ws H.size)) (cw : CallW R s args own q.1 index y bytes maxL ret wsy rm 0 0 n) (hn : As.length = n) (hsize : ls.size = nL) (hroom : (rest.map fun v => v.category).sum ≤ 8) (hdg : decode cc pc = .ok (.invokevirtual index, 3)) (hf : cells + 0 ≤ R.cells ∧ slots + 0 ≤ R.slots) (hst : st0 = As.reverse ++ .ref b :: rest)
    (kk : ∀ (H1 : Heap) (locs1 : List Loc), va_P (dC, dI) vwCl (wr ++ ws1) H1 → va_D A (wr ++ ws1) → va_S A s.heap H1 locs1 → W p l e R s m args below meth c H1 locs1 cells slots Q (F0 m (pc + 3) ls rest)) : W p l e R s m args below meth c H locs cells slots Q (F0 m pc ls st0) := by
  subst hst
  have hF := va_free (wc := ws) hD0 hS hA isC hC
  have hDc := hD0.sub isC hnC hC
  refine va_callv (va_runV (As := As) (rest := rest) S hM cw (il_preM hK hPc hDc hc he) rfl hn hsize rfl (lv_room hroom) hdg hf) hS (fun q _ h => hF q h) hF (fun u t H1 locs1 ht hvm hw hB hz hk hS1 => ?_)
  obtain ⟨hP1, hK1, hD1⟩ := hB
  rw [ht] at hP1
  obtain ⟨hP2, hD2⟩ := va_join (wr := wr) (w1 := ws1) hP0 hD0 isC isR hC hR hnR hdis hk hF hP1 hD1
  exact kk H1 locs1 hP2 hD2 hS1
/-- the same, with an int as answer -/
theorem il_callMi {y : MethodName} {bytes : ByteArray} {maxL nL n index : Nat} {ret : Option FieldType} {wsy Ts : List Cond} {rm : Room} {own : String} {q : vw_C} {fs : List Value} {w0 wr ws1 : va_W} {v : Int32} (S : CallFix p m c cc nL s args Ts own) (hK : va_K (dC, dI) vwCl [(d, .int)] s) (hP0 : va_P (dC, dI) vwCl w0 H) (hD0 : va_D A w0) (hS : va_S A s.heap H locs) (hA : ∀ q : Nat, s.heap.size ≤ q → A q) (isC isR : List Nat) (hC : isC.map (fun i => w0[i]?) = ws.map some) (hR : isR.map (fun i => w0[i]?) = wr.map some) (hnC : va_nd isC = true) (hnR : va_nd isR = true) (hdis : ∀ i ∈ isR, i ∉ isC) (hPc : va_P (dC, dI) vwCl ws H) (ci : Nat) (hc : vwCl[ci]? = some q) (he : ws[0]? = some (b, .inr (ci, fs)))
    (hM : Met l y wsy rm (il_PM dC dI ws d H.size (.ref b :: As)) (va_Qi (fun (r : Int32) (_ : Unit) => r = v) (il_B dC dI (va_A ws H.size) ws1 d) (va_A ws H.size)) 0 0 (va_A ws H.size)) (cw : CallW R s args own q.1 index y bytes maxL ret wsy rm 0 0 n) (hn : As.length = n) (hsize : ls.size = nL) (hroom : (rest.map fun v => v.category).sum ≤ 8) (hdg : decode cc pc = .ok (.invokevirtual index, 3)) (hf : cells + 0 ≤ R.cells ∧ slots + 0 ≤ R.slots) (hst : st0 = As.reverse ++ .ref b :: rest)
    (kk : ∀ (H1 : Heap) (locs1 : List Loc), va_P (dC, dI) vwCl (wr ++ ws1) H1 → va_D A (wr ++ ws1) → va_S A s.heap H1 locs1 → W p l e R s m args below meth c H1 locs1 cells slots Q (F0 m (pc + 3) ls (.int v :: rest))) : W p l e R s m args below meth c H locs cells slots Q (F0 m pc ls st0) := by
  subst hst
  have hF := va_free (wc := ws) hD0 hS hA isC hC
  have hDc := hD0.sub isC hnC hC
  refine va_calli (va_runV (As := As) (rest := rest) S hM cw (il_preM hK hPc hDc hc he) rfl hn hsize rfl (lv_room hroom) hdg hf) hS (fun q _ h => hF q h) hF (fun r u t H1 locs1 ht hvm hw hB hz hk hS1 => ?_)
  have hw : r = v := hw
  subst hw
  obtain ⟨hP1, hK1, hD1⟩ := hB
  rw [ht] at hP1
  obtain ⟨hP2, hD2⟩ := va_join (wr := wr) (w1 := ws1) hP0 hD0 isC isR hC hR hnR hdis hk hF hP1 hD1
  exact kk H1 locs1 hP2 hD2 hS1
/-- ends: an int answered, nothing written -/
theorem il_reti {v v' : Int32} (hexec : p.tables.exec = Jvm.exec) (hb : c.code = cc) (hr : meth.sig.returnType = some .int) (hlocks : meth.locks = false) (hdg : decode cc pc = .ok (.ireturn, 1)) (hQ : MQ below (vp_Si (fun r => r = v')) args s 0 0 (fun _ => False) = Q) (ev : v = v') : W p l e R s m args below meth c s.heap [] 0 0 Q (F0 m pc ls [.int v]) := by
  subst hQ
  exact W.iret hexec hb hr (fun t ht hW => ⟨_, rfl, ev, ht⟩) (fun q h => by cases h) hdg hlocks
theorem il_retz {v v' : Int32} (hexec : p.tables.exec = Jvm.exec) (hb : c.code = cc) (hr : meth.sig.returnType = some .boolean) (hlocks : meth.locks = false) (hdg : decode cc pc = .ok (.ireturn, 1)) (hQ : MQ below (vp_Si (fun r => r = v')) args s 0 0 (fun _ => False) = Q) (hn : narrow .boolean (.int v) = .int v) (ev : v = v') : W p l e R s m args below meth c s.heap [] 0 0 Q (F0 m pc ls [.int v]) := by
  subst hQ
  exact W.zret hexec hb hr hn (fun t ht hW => ⟨_, rfl, ev, ht⟩) (fun q h => by cases h) hdg hlocks
/-- ends of those that write -/
theorem il_retv {ws1 : va_W} (hexec : p.tables.exec = Jvm.exec) (hb : c.code = cc) (hr : meth.sig.returnType = none) (hlocks : meth.locks = false) (hdg : decode cc pc = .ok (.return_, 1)) (hQ : MQ below (va_Qv (fun _ : Unit => True) (il_B dC dI A ws1 d) A) args s 0 0 A = Q) (hK : va_K (dC, dI) vwCl [(d, .int)] s) (hP : va_P (dC, dI) vwCl ws H) (hD : va_D A ws) (hS : va_S A s.heap H locs) (ew : ws = ws1) : W p l e R s m args below meth c H locs 0 0 Q (F0 m pc ls []) := by
  subst hQ
  subst ew
  exact W.vret hexec hb hr (fun t ht hW => ⟨⟨(), rfl, trivial, by rw [ht]; exact hP, va_K.moved hW.alike hK, hD⟩, hS.F ht⟩) hS.2.2 hdg hlocks
theorem il_retiM {ws1 : va_W} {v v' : Int32} (hexec : p.tables.exec = Jvm.exec) (hb : c.code = cc) (hr : meth.sig.returnType = some .int) (hlocks : meth.locks = false) (hdg : decode cc pc = .ok (.ireturn, 1)) (hQ : MQ below (va_Qi (fun (r : Int32) (_ : Unit) => r = v') (il_B dC dI A ws1 d) A) args s 0 0 A = Q) (hK : va_K (dC, dI) vwCl [(d, .int)] s) (hP : va_P (dC, dI) vwCl ws H) (hD : va_D A ws) (hS : va_S A s.heap H locs) (ew : ws = ws1) (ev : v = v') : W p l e R s m args below meth c H locs 0 0 Q (F0 m pc ls [.int v]) := by
  subst hQ
  subst ew
  subst ev
  exact W.iret hexec hb hr (fun t ht hW => ⟨⟨_, (), rfl, rfl, by rw [ht]; exact hP, va_K.moved hW.alike hK, hD⟩, hS.F ht⟩) hS.2.2 hdg hlocks
end ILR
end
section
abbrev wsX0_bad : List Cond := ws_ yX0_bad cX0_bad 2 (some .boolean)
abbrev rmX0_bad : Room := il_rm 0 0
set_option maxHeartbeats 4000000 in
set_option maxRecDepth 100000 in
/-- bad(b) -/
theorem metX0_bad (l : Launch) (dC : Nat → ClassId) (dI : Nat → Nat → Nat) (h0 q1 q2 q3 q4 q5 : Nat) (d : ClassId) (to fr us se lv : il_F) (p0 : Int32) : Met l yX0_bad wsX0_bad rmX0_bad (il_PR dC dI (WX h0 q1 q2 q3 q4 q5 d to fr us se lv) d [.ref h0, .int p0]) (vp_Si (fun r => r = il_bad p0)) 0 0 (fun _ => False) := by
  refine Met.ofW (cc := cX0_bad) (maxL := 2) (ret := (some .boolean)) (by decide) rfl ?_
  intro p e s m args below meth c s₁ B hml hv
  obtain ⟨hargs, hP, hK⟩ := hv
  have hx := B.exec
  have hb := B.bytes
  have hr := B.returns
  have hlocks := B.notSynchronized
  have hts : ∀ w ∈ lw_all, w.before args s = true := fun w h => atoms_spec (ws := wsX0_bad) B.pre w (List.mem_cons_of_mem _ h)
  have hown : s.vm.findClass RX0 = some m.cls := findClass_of_methodNamed B.named
  have hF : CallFix p m c cX0_bad 2 s args lw_all RX0 := ⟨hx, hb, hml, hown, hts⟩
  refine il_entry (n := 2) (vs := [.ref h0, .int p0]) (Nat.le_of_ble_eq_true rfl) hargs (fun ls hl => ?_)
  have hl : lv_has ls 2 [(0, .ref h0), (1, .int p0)] := hl
  generalize hQ : MQ below (vp_Si (fun r => r = il_bad p0)) args s 0 0 (fun _ => False) = Q
  refine lv_iload_n hx hb dX0_bad_0 rfl (lv_at hl 1 rfl) ?_
  refine lv_if_lt (tgt := 10) hx hb dX0_bad_1 (by decide) (fun c1 => ?_) (fun c1 => ?_)
  · have c1 : p0 < 0 := c1
    refine lv_iconst (v := 1) hx hb dX0_bad_10 (by decide) ?_
    refine lv_goto (tgt := 15) hx hb dX0_bad_11 (by decide) ?_
    exact il_retz hx hb hr hlocks dX0_bad_15 hQ rfl (by rw [il_bad, if_pos c1])
  · have c1 : ¬ p0 < 0 := c1
    refine lv_iload_n hx hb dX0_bad_4 rfl (lv_at hl 1 rfl) ?_
    refine lv_bipush (v := 12) hx hb dX0_bad_5 (by decide) ?_
    refine lv_icmp_lt (tgt := 14) hx hb dX0_bad_7 (by decide) (fun c7 => ?_) (fun c7 => ?_)
    · have c7 : p0 < 12 := c7
      refine lv_iconst (v := 0) hx hb dX0_bad_14 (by decide) ?_
      exact il_retz hx hb hr hlocks dX0_bad_15 hQ rfl (by rw [il_bad, if_neg c1, if_pos c7])
    · have c7 : ¬ p0 < 12 := c7
      refine lv_iconst (v := 1) hx hb dX0_bad_10 (by decide) ?_
      refine lv_goto (tgt := 15) hx hb dX0_bad_11 (by decide) ?_
      exact il_retz hx hb hr hlocks dX0_bad_15 hQ rfl (by rw [il_bad, if_neg c1, if_neg c7])
abbrev wsX0_badVariable : List Cond := ws_ yX0_badVariable cX0_badVariable 2 (some .boolean)
abbrev rmX0_badVariable : Room := il_rm 0 0
set_option maxHeartbeats 4000000 in
set_option maxRecDepth 100000 in
/-- badVariable(v) -/
theorem metX0_badVariable (l : Launch) (dC : Nat → ClassId) (dI : Nat → Nat → Nat) (h0 q1 q2 q3 q4 q5 : Nat) (d : ClassId) (to fr us se lv : il_F) (p0 : Int32) : Met l yX0_badVariable wsX0_badVariable rmX0_badVariable (il_PR dC dI (WX h0 q1 q2 q3 q4 q5 d to fr us se lv) d [.ref h0, .int p0]) (vp_Si (fun r => r = il_badV p0)) 0 0 (fun _ => False) := by
  refine Met.ofW (cc := cX0_badVariable) (maxL := 2) (ret := (some .boolean)) (by decide) rfl ?_
  intro p e s m args below meth c s₁ B hml hv
  obtain ⟨hargs, hP, hK⟩ := hv
  have hx := B.exec
  have hb := B.bytes
  have hr := B.returns
  have hlocks := B.notSynchronized
  have hts : ∀ w ∈ lw_all, w.before args s = true := fun w h => atoms_spec (ws := wsX0_badVariable) B.pre w (List.mem_cons_of_mem _ h)
  have hown : s.vm.findClass RX0 = some m.cls := findClass_of_methodNamed B.named
  have hF : CallFix p m c cX0_badVariable 2 s args lw_all RX0 := ⟨hx, hb, hml, hown, hts⟩
  refine il_entry (n := 2) (vs := [.ref h0, .int p0]) (Nat.le_of_ble_eq_true rfl) hargs (fun ls hl => ?_)
  have hl : lv_has ls 2 [(0, .ref h0), (1, .int p0)] := hl
  generalize hQ : MQ below (vp_Si (fun r => r = il_badV p0)) args s 0 0 (fun _ => False) = Q
  refine lv_iload_n hx hb dX0_badVariable_0 rfl (lv_at hl 1 rfl) ?_
  refine lv_if_lt (tgt := 10) hx hb dX0_badVariable_1 (by decide) (fun c1 => ?_) (fun c1 => ?_)
  · have c1 : p0 < 0 := c1
    refine lv_iconst (v := 1) hx hb dX0_badVariable_10 (by decide) ?_
    refine lv_goto (tgt := 15) hx hb dX0_badVariable_11 (by decide) ?_
    exact il_retz hx hb hr hlocks dX0_badVariable_15 hQ rfl (by rw [il_badV, if_pos c1])
  · have c1 : ¬ p0 < 0 := c1
    refine lv_iload_n hx hb dX0_badVariable_4 rfl (lv_at hl 1 rfl) ?_
    refine lv_bipush (v := 20) hx hb dX0_badVariable_5 (by decide) ?_
    refine lv_icmp_lt (tgt := 14) hx hb dX0_badVariable_7 (by decide) (fun c7 => ?_) (fun c7 => ?_)
    · have c7 : p0 < 20 := c7
      refine lv_iconst (v := 0) hx hb dX0_badVariable_14 (by decide) ?_
      exact il_retz hx hb hr hlocks dX0_badVariable_15 hQ rfl (by rw [il_badV, if_neg c1, if_pos c7])
    · have c7 : ¬ p0 < 20 := c7
      refine lv_iconst (v := 1) hx hb dX0_badVariable_10 (by decide) ?_
      refine lv_goto (tgt := 15) hx hb dX0_badVariable_11 (by decide) ?_
      exact il_retz hx hb hr hlocks dX0_badVariable_15 hQ rfl (by rw [il_badV, if_neg c1, if_neg c7])
abbrev wsX0_atEnd : List Cond := ws_ yX0_atEnd cX0_atEnd 4 (some .int)
abbrev rmX0_atEnd : Room := il_rm 0 0
set_option maxHeartbeats 4000000 in
set_option maxRecDepth 100000 in
/-- atEnd(b) -/
theorem metX0_atEnd (l : Launch) (dC : Nat → ClassId) (dI : Nat → Nat → Nat) (h0 q1 q2 q3 q4 q5 : Nat) (d : ClassId) (to fr us se lv : il_F) (b : Nat) (hb12 : b < 12) : Met l yX0_atEnd wsX0_atEnd rmX0_atEnd (il_PR dC dI (WX h0 q1 q2 q3 q4 q5 d to fr us se lv) d [.ref h0, .int (nI b)]) (vp_Si (fun r => r = il_end (to b) lv)) 0 0 (fun _ => False) := by
  refine Met.ofW (cc := cX0_atEnd) (maxL := 4) (ret := (some .int)) (by decide) rfl ?_
  intro p e s m args below meth c s₁ B hml hv
  obtain ⟨hargs, hP, hK⟩ := hv
  have hx := B.exec
  have hb := B.bytes
  have hr := B.returns
  have hlocks := B.notSynchronized
  have hts : ∀ w ∈ lw_all, w.before args s = true := fun w h => atoms_spec (ws := wsX0_atEnd) B.pre w (List.mem_cons_of_mem _ h)
  have hown : s.vm.findClass RX0 = some m.cls := findClass_of_methodNamed B.named
  have hF : CallFix p m c cX0_atEnd 4 s args lw_all RX0 := ⟨hx, hb, hml, hown, hts⟩
  refine il_entry (n := 4) (vs := [.ref h0, .int (nI b)]) (Nat.le_of_ble_eq_true rfl) hargs (fun ls hl => ?_)
  have hl : lv_has ls 4 [(0, .ref h0), (1, .int (nI b))] := hl
  generalize hQ : MQ below (vp_Si (fun r => r = il_end (to b) lv)) args s 0 0 (fun _ => False) = Q
  refine lv_iconst (v := 0) hx hb dX0_atEnd_0 (by decide) ?_
  refine lv_istore_n (lv' := [(2, .int 0), (0, .ref h0), (1, .int (nI b))]) hx hb dX0_atEnd_1 rfl hl (by decide) rfl (fun ls hl => ?_)
  refine lv_iconst (v := 0) hx hb dX0_atEnd_2 (by decide) ?_
  refine lv_istore_n (lv' := [(3, .int 0), (2, .int 0), (0, .ref h0), (1, .int (nI b))]) hx hb dX0_atEnd_3 rfl hl (by decide) rfl (fun ls hl => ?_)
  have L4 : ∀ (n4 : Nat) (i : Nat) (x2 : Int32), 13 ≤ i + n4 → i ≤ 12 → x2 = il_up (il_endS (to b) lv) i 0 → ∀ ls : Array Slot, lv_has ls 4 [(0, .ref h0), (1, .int (nI b)), (2, .int x2), (3, .int (nI i))] → W p l e (headSpec wsX0_atEnd rmX0_atEnd).room s m args below meth c s.heap [] 0 0 Q (F0 m 4 ls []) := by
    intro n4
    induction n4 with
    | zero =>
      intro i x2 hfu hi e2
      exact absurd hfu (by omega)
    | succ n4 ih4 =>
      intro i x2 hfu hi e2 ls hl
      refine lv_iload_n hx hb dX0_atEnd_4 rfl (lv_at hl 3 rfl) ?_
      refine lv_bipush (v := 12) hx hb dX0_atEnd_5 (by decide) ?_
      refine lv_icmp_ge (tgt := 39) hx hb dX0_atEnd_7 (by decide) (fun c7 => ?_) (fun c7 => ?_)
      · have c7 : 12 ≤ nI i := c7
        have h7 : 12 ≤ i := il_ge (N := 12) (i := i) c7 (by omega) (by omega)
        refine lv_iload_n hx hb dX0_atEnd_39 rfl (lv_at hl 2 rfl) ?_
        exact il_reti hx hb hr hlocks dX0_atEnd_40 hQ (by rw [e2, il_end, show i = 12 by omega])
      · have c7 : ¬ 12 ≤ nI i := c7
        have h7 : i < 12 := il_nge (N := 12) (i := i) c7 (by omega)
        refine lv_aload_n hx hb dX0_atEnd_10 rfl (lv_at hl 0 rfl) ?_
        refine va_get (D := (dC, dI)) (ci := 0) (v := .ref q1) (C := RX0) (T := TX0) (N := 5) hx hb hts in_X0 hown hK hP 0 rfl rfl 0 (by decide) (hts _ q30) (fun _ h9 => h9) rfl dX0_atEnd_11 ?_
        refine lv_iload_n hx hb dX0_atEnd_14 rfl (lv_at hl 1 rfl) ?_
        refine il_ld hx hb hK hP 1 0 rfl rfl hb12 (by decide) dX0_atEnd_15 ?_
        refine lv_iload_n hx hb dX0_atEnd_16 rfl (lv_at hl 3 rfl) ?_
        refine lv_ishr hx hb dX0_atEnd_17 ?_
        refine lv_iconst (v := 1) hx hb dX0_atEnd_18 (by decide) ?_
        refine lv_iand hx hb dX0_atEnd_19 ?_
        refine lv_iconst (v := 1) hx hb dX0_atEnd_20 (by decide) ?_
        refine lv_icmp_ne (tgt := 33) hx hb dX0_atEnd_21 (by decide) (fun c21 => ?_) (fun c21 => ?_)
        · have c21 : ¬ il_b (to b) i = 1 := c21
          refine lv_iinc (v := nI (i + 1)) (lv' := [(3, .int (nI (i + 1))), (0, .ref h0), (1, .int (nI b)), (2, .int x2)]) hx hb dX0_atEnd_33 hl (k := 3) rfl (nI_1 i) (by decide) rfl (fun ls hl => ?_)
          refine lv_goto (tgt := 4) hx hb dX0_atEnd_36 (by decide) ?_
          exact ih4 (i + 1) x2 (by omega) (by omega) (by rw [il_up_s, ← e2, il_endS, if_neg c21]) ls (lv_sub hl [1, 2, 3, 0] rfl)
        · have c21 : il_b (to b) i = 1 := c21
          refine lv_iload_n hx hb dX0_atEnd_24 rfl (lv_at hl 2 rfl) ?_
          refine lv_aload_n hx hb dX0_atEnd_25 rfl (lv_at hl 0 rfl) ?_
          refine va_get (D := (dC, dI)) (ci := 0) (v := .ref q5) (C := RX0) (T := TX0) (N := 5) hx hb hts in_X0 hown hK hP 0 rfl rfl 4 (by decide) (hts _ q34) (fun _ h9 => h9) rfl dX0_atEnd_26 ?_
          refine lv_iload_n hx hb dX0_atEnd_29 rfl (lv_at hl 3 rfl) ?_
          refine il_ld hx hb hK hP 5 0 rfl rfl h7 (by decide) dX0_atEnd_30 ?_
          refine lv_ior hx hb dX0_atEnd_31 ?_
          refine lv_istore_n (lv' := [(2, .int (x2 ||| (lv i))), (0, .ref h0), (1, .int (nI b)), (3, .int (nI i))]) hx hb dX0_atEnd_32 rfl hl (by decide) rfl (fun ls hl => ?_)
          refine lv_iinc (v := nI (i + 1)) (lv' := [(3, .int (nI (i + 1))), (2, .int (x2 ||| (lv i))), (0, .ref h0), (1, .int (nI b))]) hx hb dX0_atEnd_33 hl (k := 3) rfl (nI_1 i) (by decide) rfl (fun ls hl => ?_)
          refine lv_goto (tgt := 4) hx hb dX0_atEnd_36 (by decide) ?_
          exact ih4 (i + 1) (x2 ||| (lv i)) (by omega) (by omega) (by rw [il_up_s, ← e2, il_endS, if_pos c21]) ls (lv_sub hl [2, 3, 1, 0] rfl)
  exact L4 13 0 0 (by decide) (by decide) rfl ls (lv_sub hl [2, 3, 1, 0] rfl)
abbrev wsX0_due : List Cond := ws_ yX0_due cX0_due 2 (some .int)
abbrev rmX0_due : Room := il_rm 1 23
set_option maxHeartbeats 4000000 in
set_option maxRecDepth 100000 in
/-- due(b) -/
theorem metX0_due (l : Launch) (dC : Nat → ClassId) (dI : Nat → Nat → Nat) (h0 q1 q2 q3 q4 q5 : Nat) (d : ClassId) (to fr us se lv : il_F) (b : Nat) (hb12 : b < 12) : Met l yX0_due wsX0_due rmX0_due (il_PR dC dI (WX h0 q1 q2 q3 q4 q5 d to fr us se lv) d [.ref h0, .int (nI b)]) (vp_Si (fun r => r = il_due to us se lv b)) 0 0 (fun _ => False) := by
  refine Met.ofW (cc := cX0_due) (maxL := 2) (ret := (some .int)) (by decide) rfl ?_
  intro p e s m args below meth c s₁ B hml hv
  obtain ⟨hargs, hP, hK⟩ := hv
  have hx := B.exec
  have hb := B.bytes
  have hr := B.returns
  have hlocks := B.notSynchronized
  have hts : ∀ w ∈ lw_all, w.before args s = true := fun w h => atoms_spec (ws := wsX0_due) B.pre w (List.mem_cons_of_mem _ h)
  have hown : s.vm.findClass RX0 = some m.cls := findClass_of_methodNamed B.named
  have hF : CallFix p m c cX0_due 2 s args lw_all RX0 := ⟨hx, hb, hml, hown, hts⟩
  refine il_entry (n := 2) (vs := [.ref h0, .int (nI b)]) (Nat.le_of_ble_eq_true rfl) hargs (fun ls hl => ?_)
  have hl : lv_has ls 2 [(0, .ref h0), (1, .int (nI b))] := hl
  generalize hQ : MQ below (vp_Si (fun r => r = il_due to us se lv b)) args s 0 0 (fun _ => False) = Q
  refine lv_aload_n hx hb dX0_due_0 rfl (lv_at hl 0 rfl) ?_
  refine va_get (D := (dC, dI)) (ci := 0) (v := .ref q3) (C := RX0) (T := TX0) (N := 5) hx hb hts in_X0 hown hK hP 0 rfl rfl 2 (by decide) (hts _ q32) (fun _ h9 => h9) rfl dX0_due_1 ?_
  refine lv_iload_n hx hb dX0_due_4 rfl (lv_at hl 1 rfl) ?_
  refine il_ld hx hb hK hP 3 0 rfl rfl hb12 (by decide) dX0_due_5 ?_
  refine lv_aload_n hx hb dX0_due_6 rfl (lv_at hl 0 rfl) ?_
  refine lv_iload_n hx hb dX0_due_7 rfl (lv_at hl 1 rfl) ?_
  refine il_callR (As := [.int (nI b)]) (rest := [.int (us b)]) (v := il_end (to b) lv) hF hK hP 0 rfl rfl (metX0_atEnd l dC dI h0 q1 q2 q3 q4 q5 d to fr us se lv b hb12) (cwV 1 hts (lw_V q67 q69 qs4 q20 q70) rfl rfl rfl (by decide +kernel) ⟨Nat.le_of_ble_eq_true rfl, Nat.le_of_ble_eq_true rfl⟩) rfl hl.1 (Nat.le_of_ble_eq_true rfl) dX0_due_8 ⟨Nat.le_of_ble_eq_true rfl, Nat.le_of_ble_eq_true rfl⟩ rfl ?_
  refine lv_aload_n hx hb dX0_due_11 rfl (lv_at hl 0 rfl) ?_
  refine va_get (D := (dC, dI)) (ci := 0) (v := .ref q4) (C := RX0) (T := TX0) (N := 5) hx hb hts in_X0 hown hK hP 0 rfl rfl 3 (by decide) (hts _ q33) (fun _ h9 => h9) rfl dX0_due_12 ?_
  refine lv_iload_n hx hb dX0_due_15 rfl (lv_at hl 1 rfl) ?_
  refine il_ld hx hb hK hP 4 0 rfl rfl hb12 (by decide) dX0_due_16 ?_
  refine lv_iconst (v := (-1)) hx hb dX0_due_17 (by decide) ?_
  refine lv_ixor hx hb dX0_due_18 ?_
  refine lv_iand hx hb dX0_due_19 ?_
  refine lv_ior hx hb dX0_due_20 ?_
  exact il_reti hx hb hr hlocks dX0_due_21 hQ (rfl)
abbrev wsX0_spread : List Cond := ws_ yX0_spread cX0_spread 7 none
abbrev rmX0_spread : Room := il_rm 2 44
set_option maxHeartbeats 4000000 in
set_option maxRecDepth 100000 in
/-- spread(b) -/
theorem metX0_spread (l : Launch) (dC : Nat → ClassId) (dI : Nat → Nat → Nat) (h0 q1 q2 q3 q4 q5 : Nat) (d : ClassId) (sz : Nat) (to fr us se lv : il_F) (b : Nat) (hb12 : b < 12) : Met l yX0_spread wsX0_spread rmX0_spread (il_PM dC dI (WX h0 q1 q2 q3 q4 q5 d to fr us se lv) d sz [.ref h0, .int (nI b)]) (va_Qv (fun _ : Unit => True) (il_B dC dI (va_A (WX h0 q1 q2 q3 q4 q5 d to fr us se lv) sz) (WX h0 q1 q2 q3 q4 q5 d to fr us se (il_spread to fr us se lv b)) d) (va_A (WX h0 q1 q2 q3 q4 q5 d to fr us se lv) sz)) 0 0 (va_A (WX h0 q1 q2 q3 q4 q5 d to fr us se lv) sz) := by
  refine Met.ofW (cc := cX0_spread) (maxL := 7) (ret := none) (by decide) rfl ?_
  intro p e s m args below meth c s₁ B hml hv
  obtain ⟨hargs, hsz, hP, hK, hD0⟩ := hv
  have hx := B.exec
  have hb := B.bytes
  have hr := B.returns
  have hlocks := B.notSynchronized
  have hts : ∀ w ∈ lw_all, w.before args s = true := fun w h => atoms_spec (ws := wsX0_spread) B.pre w (List.mem_cons_of_mem _ h)
  have hown : s.vm.findClass RX0 = some m.cls := findClass_of_methodNamed B.named
  have hF : CallFix p m c cX0_spread 7 s args lw_all RX0 := ⟨hx, hb, hml, hown, hts⟩
  subst hsz
  have hD := hD0.self (sz := s.heap.size)
  generalize hAe : va_A (WX h0 q1 q2 q3 q4 q5 d to fr us se lv) s.heap.size = A at hD ⊢
  have hA : ∀ q : Nat, s.heap.size ≤ q → A q := fun q h => by rw [← hAe]; exact Or.inr h
  have hS : va_S A s.heap s.heap [] := va_S.rf
  refine il_entry (n := 7) (vs := [.ref h0, .int (nI b)]) (Nat.le_of_ble_eq_true rfl) hargs (fun ls hl => ?_)
  have hl : lv_has ls 7 [(0, .ref h0), (1, .int (nI b))] := hl
  generalize hQ : MQ below (va_Qv (fun _ : Unit => True) (il_B dC dI A (WX h0 q1 q2 q3 q4 q5 d to fr us se (il_spread to fr us se lv b)) d) A) args s 0 0 A = Q
  have hP : va_P (dC, dI) vwCl (WX h0 q1 q2 q3 q4 q5 d to fr us se lv) s.heap := hP
  refine lv_iconst (v := 1) hx hb dX0_spread_0 (by decide) ?_
  refine lv_iload_n hx hb dX0_spread_1 rfl (lv_at hl 1 rfl) ?_
  refine lv_ishl hx hb dX0_spread_2 ?_
  refine lv_istore_n (lv' := [(2, .int (il_o b)), (0, .ref h0), (1, .int (nI b))]) hx hb dX0_spread_3 rfl hl (by decide) rfl (fun ls hl => ?_)
  refine lv_iconst (v := 0) hx hb dX0_spread_4 (by decide) ?_
  refine lv_istore_n (lv' := [(3, .int 0), (2, .int (il_o b)), (0, .ref h0), (1, .int (nI b))]) hx hb dX0_spread_5 rfl hl (by decide) rfl (fun ls hl => ?_)
  have L6 : ∀ (n6 : Nat) (r : Nat) (lv1 : il_F) (x2 : Int32), 242 ≤ r + n6 → r ≤ 241 → il_spW to fr us se (241 - r) (lv1, x2) = il_spread to fr us se lv b → ∀ (H : Heap) (locs : List Loc), va_P (dC, dI) vwCl (WX h0 q1 q2 q3 q4 q5 d to fr us se lv1) H → va_D A (WX h0 q1 q2 q3 q4 q5 d to fr us se lv1) → va_S A s.heap H locs → ∀ ls : Array Slot, lv_has ls 7 [(0, .ref h0), (1, .int (nI b)), (2, .int x2), (3, .int (nI r))] → W p l e (headSpec wsX0_spread rmX0_spread).room s m args below meth c H locs 0 0 Q (F0 m 6 ls []) := by
    intro n6
    induction n6 with
    | zero =>
      intro r lv1 x2 hfu hr1 er
      exact absurd hfu (by omega)
    | succ n6 ih6 =>
      intro r lv1 x2 hfu hr1 er H locs hP hD hS ls hl
      refine lv_iload_n hx hb dX0_spread_6 rfl (lv_at hl 3 rfl) ?_
      refine lv_sipush (v := 241) hx hb dX0_spread_7 (by decide) ?_
      refine lv_icmp_ge (tgt := 107) hx hb dX0_spread_10 (by decide) (fun c10 => ?_) (fun c10 => ?_)
      · have c10 : 241 ≤ nI r := c10
        have h10 : 241 ≤ r := il_ge (N := 241) (i := r) c10 (by omega) (by omega)
        exact il_retv hx hb hr hlocks dX0_spread_107 hQ hK hP hD hS (by rw [← er, show 241 - r = 0 by omega, il_spW_z])
      · have c10 : ¬ 241 ≤ nI r := c10
        have h10 : r < 241 := il_nge (N := 241) (i := r) c10 (by omega)
        refine lv_iload_n hx hb dX0_spread_13 rfl (lv_at hl 2 rfl) ?_
        refine lv_if_eq (tgt := 107) hx hb dX0_spread_14 (by decide) (fun c14 => ?_) (fun c14 => ?_)
        · have c14 : x2 = 0 := c14
          exact il_retv hx hb hr hlocks dX0_spread_107 hQ hK hP hD hS (by rw [← er, il_spW_0 c14])
        · have c14 : ¬ x2 = 0 := c14
          refine lv_iconst (v := 0) hx hb dX0_spread_17 (by decide) ?_
          refine lv_istore (lv' := [(4, .int 0), (0, .ref h0), (1, .int (nI b)), (2, .int x2), (3, .int (nI r))]) hx hb dX0_spread_18 hl (by decide) rfl (fun ls hl => ?_)
          refine lv_iconst (v := 0) hx hb dX0_spread_20 (by decide) ?_
          refine lv_istore (lv' := [(5, .int 0), (4, .int 0), (0, .ref h0), (1, .int (nI b)), (2, .int x2), (3, .int (nI r))]) hx hb dX0_spread_21 hl (by decide) rfl (fun ls hl => ?_)
          have L23 : ∀ (n23 : Nat) (i : Nat) (lv2 : il_F) (x4 : Int32), 13 ≤ i + n23 → i ≤ 12 → (lv2, x4) = il_up (fun i st => il_spS to fr us se x2 i st.1 st.2) i (lv1, 0) → ∀ (H : Heap) (locs : List Loc), va_P (dC, dI) vwCl (WX h0 q1 q2 q3 q4 q5 d to fr us se lv2) H → va_D A (WX h0 q1 q2 q3 q4 q5 d to fr us se lv2) → va_S A s.heap H locs → ∀ ls : Array Slot, lv_has ls 7 [(0, .ref h0), (1, .int (nI b)), (2, .int x2), (3, .int (nI r)), (4, .int x4), (5, .int (nI i))] → W p l e (headSpec wsX0_spread rmX0_spread).room s m args below meth c H locs 0 0 Q (F0 m 23 ls []) := by
            intro n23
            induction n23 with
            | zero =>
              intro i lv2 x4 hfu hi e4
              exact absurd hfu (by omega)
            | succ n23 ih23 =>
              intro i lv2 x4 hfu hi e4 H locs hP hD hS ls hl
              refine lv_iload hx hb dX0_spread_23 (lv_at hl 5 rfl) ?_
              refine lv_bipush (v := 12) hx hb dX0_spread_25 (by decide) ?_
              refine lv_icmp_ge (tgt := 98) hx hb dX0_spread_27 (by decide) (fun c27 => ?_) (fun c27 => ?_)
              · have c27 : 12 ≤ nI i := c27
                have h27 : 12 ≤ i := il_ge (N := 12) (i := i) c27 (by omega) (by omega)
                refine lv_iload hx hb dX0_spread_98 (lv_at hl 4 rfl) ?_
                refine lv_istore_n (lv' := [(2, .int x4), (0, .ref h0), (1, .int (nI b)), (3, .int (nI r)), (4, .int x4), (5, .int (nI i))]) hx hb dX0_spread_100 rfl hl (by decide) rfl (fun ls hl => ?_)
                refine lv_iinc (v := nI (r + 1)) (lv' := [(3, .int (nI (r + 1))), (2, .int x4), (0, .ref h0), (1, .int (nI b)), (4, .int x4), (5, .int (nI i))]) hx hb dX0_spread_101 hl (k := 3) rfl (nI_1 r) (by decide) rfl (fun ls hl => ?_)
                refine lv_goto (tgt := 6) hx hb dX0_spread_104 (by decide) ?_
                exact ih6 (r + 1) lv2 x4 (by omega) (by omega) (by rw [← er, show 241 - r = (241 - (r + 1)) + 1 by omega, il_spW_s c14, il_spR, e4, show i = 12 by omega]) _ _ hP hD hS ls (lv_sub hl [2, 3, 1, 0] rfl)
              · have c27 : ¬ 12 ≤ nI i := c27
                have h27 : i < 12 := il_nge (N := 12) (i := i) c27 (by omega)
                refine lv_iload_n hx hb dX0_spread_30 rfl (lv_at hl 2 rfl) ?_
                refine lv_iload hx hb dX0_spread_31 (lv_at hl 5 rfl) ?_
                refine lv_ishr hx hb dX0_spread_33 ?_
                refine lv_iconst (v := 1) hx hb dX0_spread_34 (by decide) ?_
                refine lv_iand hx hb dX0_spread_35 ?_
                refine lv_iconst (v := 1) hx hb dX0_spread_36 (by decide) ?_
                refine lv_icmp_ne (tgt := 92) hx hb dX0_spread_37 (by decide) (fun c37 => ?_) (fun c37 => ?_)
                · have c37 : ¬ il_b x2 i = 1 := c37
                  refine lv_iinc (v := nI (i + 1)) (lv' := [(5, .int (nI (i + 1))), (0, .ref h0), (1, .int (nI b)), (2, .int x2), (3, .int (nI r)), (4, .int x4)]) hx hb dX0_spread_92 hl (k := 5) rfl (nI_1 i) (by decide) rfl (fun ls hl => ?_)
                  refine lv_goto (tgt := 23) hx hb dX0_spread_95 (by decide) ?_
                  exact ih23 (i + 1) lv2 x4 (by omega) (by omega) (by rw [il_up_s, ← e4]; show _ = il_spS to fr us se x2 i lv2 x4; rw [il_spS, if_neg c37]) _ _ hP hD hS ls (lv_sub hl [1, 2, 3, 4, 5, 0] rfl)
                · have c37 : il_b x2 i = 1 := c37
                  refine lv_aload_n hx hb dX0_spread_40 rfl (lv_at hl 0 rfl) ?_
                  refine lv_iload hx hb dX0_spread_41 (lv_at hl 5 rfl) ?_
                  refine il_callR (As := [.int (nI i)]) (rest := []) (v := il_due to us se lv2 i) hF hK hP 0 rfl rfl (metX0_due l dC dI h0 q1 q2 q3 q4 q5 d to fr us se lv2 i h27) (cwV 1 hts (lw_V q63 q65 qs3 q20 q66) rfl rfl rfl (by decide +kernel) ⟨Nat.le_of_ble_eq_true rfl, Nat.le_of_ble_eq_true rfl⟩) rfl hl.1 (Nat.le_of_ble_eq_true rfl) dX0_spread_43 ⟨Nat.le_of_ble_eq_true rfl, Nat.le_of_ble_eq_true rfl⟩ rfl ?_
                  refine lv_istore (lv' := [(6, .int (il_due to us se lv2 i)), (0, .ref h0), (1, .int (nI b)), (2, .int x2), (3, .int (nI r)), (4, .int x4), (5, .int (nI i))]) hx hb dX0_spread_46 hl (by decide) rfl (fun ls hl => ?_)
                  refine lv_iload hx hb dX0_spread_48 (lv_at hl 0 rfl) ?_
                  refine lv_aload_n hx hb dX0_spread_50 rfl (lv_at hl 1 rfl) ?_
                  refine va_get (D := (dC, dI)) (ci := 0) (v := .ref q5) (C := RX0) (T := TX0) (N := 5) hx hb hts in_X0 hown hK hP 0 rfl rfl 4 (by decide) (hts _ q34) (fun _ h9 => h9) rfl dX0_spread_51 ?_
                  refine lv_iload hx hb dX0_spread_54 (lv_at hl 6 rfl) ?_
                  refine il_ld hx hb hK hP 5 0 rfl rfl h27 (by decide) dX0_spread_56 ?_
                  refine lv_iconst (v := (-1)) hx hb dX0_spread_57 (by decide) ?_
                  refine lv_ixor hx hb dX0_spread_58 ?_
                  refine lv_iand hx hb dX0_spread_59 ?_
                  refine lv_if_eq (tgt := 92) hx hb dX0_spread_60 (by decide) (fun c60 => ?_) (fun c60 => ?_)
                  · have c60 : (il_due to us se lv2 i) &&& (il_n (lv2 i)) = 0 := c60
                    refine lv_iinc (v := nI (i + 1)) (lv' := [(5, .int (nI (i + 1))), (6, .int (il_due to us se lv2 i)), (0, .ref h0), (1, .int (nI b)), (2, .int x2), (3, .int (nI r)), (4, .int x4)]) hx hb dX0_spread_92 hl (k := 6) rfl (nI_1 i) (by decide) rfl (fun ls hl => ?_)
                    refine lv_goto (tgt := 23) hx hb dX0_spread_95 (by decide) ?_
                    exact ih23 (i + 1) lv2 x4 (by omega) (by omega) (by rw [il_up_s, ← e4]; show _ = il_spS to fr us se x2 i lv2 x4; rw [il_spS, if_pos c37, if_pos c60]) _ _ hP hD hS ls (lv_sub hl [2, 3, 4, 5, 6, 0] rfl)
                  · have c60 : ¬ (il_due to us se lv2 i) &&& (il_n (lv2 i)) = 0 := c60
                    refine lv_aload_n hx hb dX0_spread_63 rfl (lv_at hl 1 rfl) ?_
                    refine va_get (D := (dC, dI)) (ci := 0) (v := .ref q5) (C := RX0) (T := TX0) (N := 5) hx hb hts in_X0 hown hK hP 0 rfl rfl 4 (by decide) (hts _ q34) (fun _ h9 => h9) rfl dX0_spread_64 ?_
                    refine lv_iload hx hb dX0_spread_67 (lv_at hl 6 rfl) ?_
                    refine lv_aload_n hx hb dX0_spread_69 rfl (lv_at hl 1 rfl) ?_
                    refine va_get (D := (dC, dI)) (ci := 0) (v := .ref q5) (C := RX0) (T := TX0) (N := 5) hx hb hts in_X0 hown hK hP 0 rfl rfl 4 (by decide) (hts _ q34) (fun _ h9 => h9) rfl dX0_spread_70 ?_
                    refine lv_iload hx hb dX0_spread_73 (lv_at hl 6 rfl) ?_
                    refine il_ld hx hb hK hP 5 0 rfl rfl h27 (by decide) dX0_spread_75 ?_
                    refine lv_iload hx hb dX0_spread_76 (lv_at hl 0 rfl) ?_
                    refine lv_ior hx hb dX0_spread_78 ?_
                    refine il_st hx hb hK hP hD hS 5 0 rfl rfl h27 (by decide) dX0_spread_79 (fun H locs hP hD hS => ?_)
                    have hP : va_P (dC, dI) vwCl (WX h0 q1 q2 q3 q4 q5 d to fr us se (upd lv2 i ((lv2 i) ||| (il_due to us se lv2 i)))) H := hP
                    have hD : va_D A (WX h0 q1 q2 q3 q4 q5 d to fr us se (upd lv2 i ((lv2 i) ||| (il_due to us se lv2 i)))) := hD
                    refine lv_iload hx hb dX0_spread_80 (lv_at hl 5 rfl) ?_
                    refine lv_aload_n hx hb dX0_spread_82 rfl (lv_at hl 1 rfl) ?_
                    refine va_get (D := (dC, dI)) (ci := 0) (v := .ref q2) (C := RX0) (T := TX0) (N := 5) hx hb hts in_X0 hown hK hP 0 rfl rfl 1 (by decide) (hts _ q31) (fun _ h9 => h9) rfl dX0_spread_83 ?_
                    refine lv_iload hx hb dX0_spread_86 (lv_at hl 6 rfl) ?_
                    refine il_ld hx hb hK hP 2 0 rfl rfl h27 (by decide) dX0_spread_88 ?_
                    refine lv_ior hx hb dX0_spread_89 ?_
                    refine lv_istore (lv' := [(4, .int (x4 ||| (fr i))), (6, .int (il_due to us se lv2 i)), (0, .ref h0), (1, .int (nI b)), (2, .int x2), (3, .int (nI r)), (5, .int (nI i))]) hx hb dX0_spread_90 hl (by decide) rfl (fun ls hl => ?_)
                    refine lv_iinc (v := nI (i + 1)) (lv' := [(5, .int (nI (i + 1))), (4, .int (x4 ||| (fr i))), (6, .int (il_due to us se lv2 i)), (0, .ref h0), (1, .int (nI b)), (2, .int x2), (3, .int (nI r))]) hx hb dX0_spread_92 hl (k := 6) rfl (nI_1 i) (by decide) rfl (fun ls hl => ?_)
                    refine lv_goto (tgt := 23) hx hb dX0_spread_95 (by decide) ?_
                    exact ih23 (i + 1) (upd lv2 i ((lv2 i) ||| (il_due to us se lv2 i))) (x4 ||| (fr i)) (by omega) (by omega) (by rw [il_up_s, ← e4]; show _ = il_spS to fr us se x2 i lv2 x4; rw [il_spS, if_pos c37, if_neg c60]) _ _ hP hD hS ls (lv_sub hl [3, 4, 5, 6, 1, 0] rfl)
          exact L23 13 0 lv1 0 (by decide) (by decide) rfl _ _ hP hD hS ls (lv_sub hl [2, 3, 4, 5, 1, 0] rfl)
  exact L6 242 0 lv (il_o b) (by decide) (by decide) rfl _ _ hP hD hS ls (lv_sub hl [2, 3, 1, 0] rfl)
abbrev wsX0_behind : List Cond := ws_ yX0_behind cX0_behind 5 (some .int)
abbrev rmX0_behind : Room := il_rm 0 0
set_option maxHeartbeats 4000000 in
set_option maxRecDepth 100000 in
/-- behind(b) -/
theorem metX0_behind (l : Launch) (dC : Nat → ClassId) (dI : Nat → Nat → Nat) (h0 q1 q2 q3 q4 q5 : Nat) (d : ClassId) (to fr us se lv : il_F) (b : Nat) (hb12 : b < 12) : Met l yX0_behind wsX0_behind rmX0_behind (il_PR dC dI (WX h0 q1 q2 q3 q4 q5 d to fr us se lv) d [.ref h0, .int (nI b)]) (vp_Si (fun r => r = il_behind fr b)) 0 0 (fun _ => False) := by
  refine Met.ofW (cc := cX0_behind) (maxL := 5) (ret := (some .int)) (by decide) rfl ?_
  intro p e s m args below meth c s₁ B hml hv
  obtain ⟨hargs, hP, hK⟩ := hv
  have hx := B.exec
  have hb := B.bytes
  have hr := B.returns
  have hlocks := B.notSynchronized
  have hts : ∀ w ∈ lw_all, w.before args s = true := fun w h => atoms_spec (ws := wsX0_behind) B.pre w (List.mem_cons_of_mem _ h)
  have hown : s.vm.findClass RX0 = some m.cls := findClass_of_methodNamed B.named
  have hF : CallFix p m c cX0_behind 5 s args lw_all RX0 := ⟨hx, hb, hml, hown, hts⟩
  refine il_entry (n := 5) (vs := [.ref h0, .int (nI b)]) (Nat.le_of_ble_eq_true rfl) hargs (fun ls hl => ?_)
  have hl : lv_has ls 5 [(0, .ref h0), (1, .int (nI b))] := hl
  generalize hQ : MQ below (vp_Si (fun r => r = il_behind fr b)) args s 0 0 (fun _ => False) = Q
  refine lv_iconst (v := 1) hx hb dX0_behind_0 (by decide) ?_
  refine lv_iload_n hx hb dX0_behind_1 rfl (lv_at hl 1 rfl) ?_
  refine lv_ishl hx hb dX0_behind_2 ?_
  refine lv_istore_n (lv' := [(2, .int (il_o b)), (0, .ref h0), (1, .int (nI b))]) hx hb dX0_behind_3 rfl hl (by decide) rfl (fun ls hl => ?_)
  refine lv_iconst (v := 0) hx hb dX0_behind_4 (by decide) ?_
  refine lv_istore_n (lv' := [(3, .int 0), (2, .int (il_o b)), (0, .ref h0), (1, .int (nI b))]) hx hb dX0_behind_5 rfl hl (by decide) rfl (fun ls hl => ?_)
  have L6 : ∀ (n6 : Nat) (r : Nat) (x2 : Int32), 13 ≤ r + n6 → r ≤ 12 → x2 = il_up (il_bhR fr) r (il_o b) → ∀ ls : Array Slot, lv_has ls 5 [(0, .ref h0), (1, .int (nI b)), (2, .int x2), (3, .int (nI r))] → W p l e (headSpec wsX0_behind rmX0_behind).room s m args below meth c s.heap [] 0 0 Q (F0 m 6 ls []) := by
    intro n6
    induction n6 with
    | zero =>
      intro r x2 hfu hr1 e2
      exact absurd hfu (by omega)
    | succ n6 ih6 =>
      intro r x2 hfu hr1 e2 ls hl
      refine lv_iload_n hx hb dX0_behind_6 rfl (lv_at hl 3 rfl) ?_
      refine lv_bipush (v := 12) hx hb dX0_behind_7 (by decide) ?_
      refine lv_icmp_ge (tgt := 54) hx hb dX0_behind_9 (by decide) (fun c9 => ?_) (fun c9 => ?_)
      · have c9 : 12 ≤ nI r := c9
        have h9 : 12 ≤ r := il_ge (N := 12) (i := r) c9 (by omega) (by omega)
        refine lv_iload_n hx hb dX0_behind_54 rfl (lv_at hl 2 rfl) ?_
        exact il_reti hx hb hr hlocks dX0_behind_55 hQ (by rw [e2, il_behind, show r = 12 by omega])
      · have c9 : ¬ 12 ≤ nI r := c9
        have h9 : r < 12 := il_nge (N := 12) (i := r) c9 (by omega)
        refine lv_iconst (v := 0) hx hb dX0_behind_12 (by decide) ?_
        refine lv_istore (lv' := [(4, .int 0), (0, .ref h0), (1, .int (nI b)), (2, .int x2), (3, .int (nI r))]) hx hb dX0_behind_13 hl (by decide) rfl (fun ls hl => ?_)
        have L15 : ∀ (n15 : Nat) (i : Nat) (y2 : Int32), 13 ≤ i + n15 → i ≤ 12 → y2 = il_up (il_bhS fr) i x2 → ∀ ls : Array Slot, lv_has ls 5 [(0, .ref h0), (1, .int (nI b)), (2, .int y2), (3, .int (nI r)), (4, .int (nI i))] → W p l e (headSpec wsX0_behind rmX0_behind).room s m args below meth c s.heap [] 0 0 Q (F0 m 15 ls []) := by
          intro n15
          induction n15 with
          | zero =>
            intro i y2 hfu hi e4
            exact absurd hfu (by omega)
          | succ n15 ih15 =>
            intro i y2 hfu hi e4 ls hl
            refine lv_iload hx hb dX0_behind_15 (lv_at hl 4 rfl) ?_
            refine lv_bipush (v := 12) hx hb dX0_behind_17 (by decide) ?_
            refine lv_icmp_ge (tgt := 48) hx hb dX0_behind_19 (by decide) (fun c19 => ?_) (fun c19 => ?_)
            · have c19 : 12 ≤ nI i := c19
              have h19 : 12 ≤ i := il_ge (N := 12) (i := i) c19 (by omega) (by omega)
              refine lv_iinc (v := nI (r + 1)) (lv' := [(3, .int (nI (r + 1))), (0, .ref h0), (1, .int (nI b)), (2, .int y2), (4, .int (nI i))]) hx hb dX0_behind_48 hl (k := 3) rfl (nI_1 r) (by decide) rfl (fun ls hl => ?_)
              refine lv_goto (tgt := 6) hx hb dX0_behind_51 (by decide) ?_
              exact ih6 (r + 1) y2 (by omega) (by omega) (by rw [il_up_s, ← e2, il_bhR, e4, show i = 12 by omega]) ls (lv_sub hl [1, 2, 3, 0] rfl)
            · have c19 : ¬ 12 ≤ nI i := c19
              have h19 : i < 12 := il_nge (N := 12) (i := i) c19 (by omega)
              refine lv_iload_n hx hb dX0_behind_22 rfl (lv_at hl 2 rfl) ?_
              refine lv_iload hx hb dX0_behind_23 (lv_at hl 4 rfl) ?_
              refine lv_ishr hx hb dX0_behind_25 ?_
              refine lv_iconst (v := 1) hx hb dX0_behind_26 (by decide) ?_
              refine lv_iand hx hb dX0_behind_27 ?_
              refine lv_iconst (v := 1) hx hb dX0_behind_28 (by decide) ?_
              refine lv_icmp_ne (tgt := 42) hx hb dX0_behind_29 (by decide) (fun c29 => ?_) (fun c29 => ?_)
              · have c29 : ¬ il_b y2 i = 1 := c29
                refine lv_iinc (v := nI (i + 1)) (lv' := [(4, .int (nI (i + 1))), (0, .ref h0), (1, .int (nI b)), (2, .int y2), (3, .int (nI r))]) hx hb dX0_behind_42 hl (k := 4) rfl (nI_1 i) (by decide) rfl (fun ls hl => ?_)
                refine lv_goto (tgt := 15) hx hb dX0_behind_45 (by decide) ?_
                exact ih15 (i + 1) y2 (by omega) (by omega) (by rw [il_up_s, ← e4, il_bhS, if_neg c29]) ls (lv_sub hl [1, 2, 3, 4, 0] rfl)
              · have c29 : il_b y2 i = 1 := c29
                refine lv_iload_n hx hb dX0_behind_32 rfl (lv_at hl 2 rfl) ?_
                refine lv_aload_n hx hb dX0_behind_33 rfl (lv_at hl 0 rfl) ?_
                refine va_get (D := (dC, dI)) (ci := 0) (v := .ref q2) (C := RX0) (T := TX0) (N := 5) hx hb hts in_X0 hown hK hP 0 rfl rfl 1 (by decide) (hts _ q31) (fun _ h9 => h9) rfl dX0_behind_34 ?_
                refine lv_iload hx hb dX0_behind_37 (lv_at hl 4 rfl) ?_
                refine il_ld hx hb hK hP 2 0 rfl rfl h19 (by decide) dX0_behind_39 ?_
                refine lv_ior hx hb dX0_behind_40 ?_
                refine lv_istore_n (lv' := [(2, .int (y2 ||| (fr i))), (0, .ref h0), (1, .int (nI b)), (3, .int (nI r)), (4, .int (nI i))]) hx hb dX0_behind_41 rfl hl (by decide) rfl (fun ls hl => ?_)
                refine lv_iinc (v := nI (i + 1)) (lv' := [(4, .int (nI (i + 1))), (2, .int (y2 ||| (fr i))), (0, .ref h0), (1, .int (nI b)), (3, .int (nI r))]) hx hb dX0_behind_42 hl (k := 4) rfl (nI_1 i) (by decide) rfl (fun ls hl => ?_)
                refine lv_goto (tgt := 15) hx hb dX0_behind_45 (by decide) ?_
                exact ih15 (i + 1) (y2 ||| (fr i)) (by omega) (by omega) (by rw [il_up_s, ← e4, il_bhS, if_pos c29]) ls (lv_sub hl [2, 3, 1, 4, 0] rfl)
        exact L15 13 0 x2 (by decide) (by decide) rfl ls (lv_sub hl [1, 2, 3, 4, 0] rfl)
  exact L6 13 0 (il_o b) (by decide) (by decide) rfl ls (lv_sub hl [2, 3, 1, 0] rfl)
abbrev wsX0_sizeOf : List Cond := ws_ yX0_sizeOf cX0_sizeOf 4 (some .int)
abbrev rmX0_sizeOf : Room := il_rm 0 0
set_option maxHeartbeats 4000000 in
set_option maxRecDepth 100000 in
/-- sizeOf(set) -/
theorem metX0_sizeOf (l : Launch) (dC : Nat → ClassId) (dI : Nat → Nat → Nat) (h0 q1 q2 q3 q4 q5 : Nat) (d : ClassId) (to fr us se lv : il_F) (x0 : Int32) : Met l yX0_sizeOf wsX0_sizeOf rmX0_sizeOf (il_PR dC dI (WX h0 q1 q2 q3 q4 q5 d to fr us se lv) d [.ref h0, .int x0]) (vp_Si (fun r => r = il_size x0)) 0 0 (fun _ => False) := by
  refine Met.ofW (cc := cX0_sizeOf) (maxL := 4) (ret := (some .int)) (by decide) rfl ?_
  intro p e s m args below meth c s₁ B hml hv
  obtain ⟨hargs, hP, hK⟩ := hv
  have hx := B.exec
  have hb := B.bytes
  have hr := B.returns
  have hlocks := B.notSynchronized
  have hts : ∀ w ∈ lw_all, w.before args s = true := fun w h => atoms_spec (ws := wsX0_sizeOf) B.pre w (List.mem_cons_of_mem _ h)
  have hown : s.vm.findClass RX0 = some m.cls := findClass_of_methodNamed B.named
  have hF : CallFix p m c cX0_sizeOf 4 s args lw_all RX0 := ⟨hx, hb, hml, hown, hts⟩
  refine il_entry (n := 4) (vs := [.ref h0, .int x0]) (Nat.le_of_ble_eq_true rfl) hargs (fun ls hl => ?_)
  have hl : lv_has ls 4 [(0, .ref h0), (1, .int x0)] := hl
  generalize hQ : MQ below (vp_Si (fun r => r = il_size x0)) args s 0 0 (fun _ => False) = Q
  refine lv_iconst (v := 0) hx hb dX0_sizeOf_0 (by decide) ?_
  refine lv_istore_n (lv' := [(2, .int 0), (0, .ref h0), (1, .int x0)]) hx hb dX0_sizeOf_1 rfl hl (by decide) rfl (fun ls hl => ?_)
  refine lv_iconst (v := 0) hx hb dX0_sizeOf_2 (by decide) ?_
  refine lv_istore_n (lv' := [(3, .int 0), (2, .int 0), (0, .ref h0), (1, .int x0)]) hx hb dX0_sizeOf_3 rfl hl (by decide) rfl (fun ls hl => ?_)
  have L4 : ∀ (n4 : Nat) (i : Nat) (x2 : Int32), 21 ≤ i + n4 → i ≤ 20 → x2 = il_up (il_szS x0) i 0 → ∀ ls : Array Slot, lv_has ls 4 [(0, .ref h0), (1, .int x0), (2, .int x2), (3, .int (nI i))] → W p l e (headSpec wsX0_sizeOf rmX0_sizeOf).room s m args below meth c s.heap [] 0 0 Q (F0 m 4 ls []) := by
    intro n4
    induction n4 with
    | zero =>
      intro i x2 hfu hi e2
      exact absurd hfu (by omega)
    | succ n4 ih4 =>
      intro i x2 hfu hi e2 ls hl
      refine lv_iload_n hx hb dX0_sizeOf_4 rfl (lv_at hl 3 rfl) ?_
      refine lv_bipush (v := 20) hx hb dX0_sizeOf_5 (by decide) ?_
      refine lv_icmp_ge (tgt := 24) hx hb dX0_sizeOf_7 (by decide) (fun c7 => ?_) (fun c7 => ?_)
      · have c7 : 20 ≤ nI i := c7
        have h7 : 20 ≤ i := il_ge (N := 20) (i := i) c7 (by omega) (by omega)
        refine lv_iload_n hx hb dX0_sizeOf_24 rfl (lv_at hl 2 rfl) ?_
        exact il_reti hx hb hr hlocks dX0_sizeOf_25 hQ (by rw [e2, il_size, show i = 20 by omega])
      · have c7 : ¬ 20 ≤ nI i := c7
        have h7 : i < 20 := il_nge (N := 20) (i := i) c7 (by omega)
        refine lv_iload_n hx hb dX0_sizeOf_10 rfl (lv_at hl 2 rfl) ?_
        refine lv_iload_n hx hb dX0_sizeOf_11 rfl (lv_at hl 1 rfl) ?_
        refine lv_iload_n hx hb dX0_sizeOf_12 rfl (lv_at hl 3 rfl) ?_
        refine lv_ishr hx hb dX0_sizeOf_13 ?_
        refine lv_iconst (v := 1) hx hb dX0_sizeOf_14 (by decide) ?_
        refine lv_iand hx hb dX0_sizeOf_15 ?_
        refine lv_iadd hx hb dX0_sizeOf_16 ?_
        refine lv_istore_n (lv' := [(2, .int (x2 + (il_b x0 i))), (0, .ref h0), (1, .int x0), (3, .int (nI i))]) hx hb dX0_sizeOf_17 rfl hl (by decide) rfl (fun ls hl => ?_)
        refine lv_iinc (v := nI (i + 1)) (lv' := [(3, .int (nI (i + 1))), (2, .int (x2 + (il_b x0 i))), (0, .ref h0), (1, .int x0)]) hx hb dX0_sizeOf_18 hl (k := 3) rfl (nI_1 i) (by decide) rfl (fun ls hl => ?_)
        refine lv_goto (tgt := 4) hx hb dX0_sizeOf_21 (by decide) ?_
        exact ih4 (i + 1) (x2 + (il_b x0 i)) (by omega) (by omega) (by rw [il_up_s, ← e2, il_szS]) ls (lv_sub hl [2, 3, 1, 0] rfl)
  exact L4 21 0 0 (by decide) (by decide) rfl ls (lv_sub hl [2, 3, 1, 0] rfl)
end
section
abbrev wsX0_shrink : List Cond := ws_ yX0_shrink cX0_shrink 9 none
abbrev rmX0_shrink : Room := il_rm 2 44
set_option maxHeartbeats 4000000 in
set_option maxRecDepth 100000 in
/-- shrink(b, some) -/
theorem metX0_shrink (l : Launch) (dC : Nat → ClassId) (dI : Nat → Nat → Nat) (h0 q1 q2 q3 q4 q5 : Nat) (d : ClassId) (sz : Nat) (to fr us se lv : il_F) (b : Nat) (hb12 : b < 12) (sm : Int32) : Met l yX0_shrink wsX0_shrink rmX0_shrink (il_PM dC dI (WX h0 q1 q2 q3 q4 q5 d to fr us se lv) d sz [.ref h0, .int (nI b), .int sm]) (va_Qv (fun _ : Unit => True) (il_B dC dI (va_A (WX h0 q1 q2 q3 q4 q5 d to fr us se lv) sz) (WX h0 q1 q2 q3 q4 q5 d to fr us se (il_shrink to fr us se lv b sm)) d) (va_A (WX h0 q1 q2 q3 q4 q5 d to fr us se lv) sz)) 0 0 (va_A (WX h0 q1 q2 q3 q4 q5 d to fr us se lv) sz) := by
  refine Met.ofW (cc := cX0_shrink) (maxL := 9) (ret := none) (by decide) rfl ?_
  intro p e s m args below meth c s₁ B hml hv
  obtain ⟨hargs, hsz, hP, hK, hD0⟩ := hv
  have hx := B.exec
  have hb := B.bytes
  have hr := B.returns
  have hlocks := B.notSynchronized
  have hts : ∀ w ∈ lw_all, w.before args s = true := fun w h => atoms_spec (ws := wsX0_shrink) B.pre w (List.mem_cons_of_mem _ h)
  have hown : s.vm.findClass RX0 = some m.cls := findClass_of_methodNamed B.named
  have hF : CallFix p m c cX0_shrink 9 s args lw_all RX0 := ⟨hx, hb, hml, hown, hts⟩
  subst hsz
  have hD := hD0.self (sz := s.heap.size)
  generalize hAe : va_A (WX h0 q1 q2 q3 q4 q5 d to fr us se lv) s.heap.size = A at hD ⊢
  have hA : ∀ q : Nat, s.heap.size ≤ q → A q := fun q h => by rw [← hAe]; exact Or.inr h
  have hS : va_S A s.heap s.heap [] := va_S.rf
  refine il_entry (n := 9) (vs := [.ref h0, .int (nI b), .int sm]) (Nat.le_of_ble_eq_true rfl) hargs (fun ls hl => ?_)
  have hl : lv_has ls 9 [(0, .ref h0), (1, .int (nI b)), (2, .int sm)] := hl
  generalize hQ : MQ below (va_Qv (fun _ : Unit => True) (il_B dC dI A (WX h0 q1 q2 q3 q4 q5 d to fr us se (il_shrink to fr us se lv b sm)) d) A) args s 0 0 A = Q
  have hP : va_P (dC, dI) vwCl (WX h0 q1 q2 q3 q4 q5 d to fr us se lv) s.heap := hP
  refine lv_iload_n hx hb dX0_shrink_0 rfl (lv_at hl 2 rfl) ?_
  refine lv_aload_n hx hb dX0_shrink_1 rfl (lv_at hl 0 rfl) ?_
  refine va_get (D := (dC, dI)) (ci := 0) (v := .ref q5) (C := RX0) (T := TX0) (N := 5) hx hb hts in_X0 hown hK hP 0 rfl rfl 4 (by decide) (hts _ q34) (fun _ h9 => h9) rfl dX0_shrink_2 ?_
  refine lv_iload_n hx hb dX0_shrink_5 rfl (lv_at hl 1 rfl) ?_
  refine il_ld hx hb hK hP 5 0 rfl rfl hb12 (by decide) dX0_shrink_6 ?_
  refine lv_iand hx hb dX0_shrink_7 ?_
  refine lv_istore_n (lv' := [(3, .int (sm &&& (lv b))), (0, .ref h0), (1, .int (nI b)), (2, .int sm)]) hx hb dX0_shrink_8 rfl hl (by decide) rfl (fun ls hl => ?_)
  refine lv_iload_n hx hb dX0_shrink_9 rfl (lv_at hl 0 rfl) ?_
  refine lv_if_ne (tgt := 14) hx hb dX0_shrink_10 (by decide) (fun c10 => ?_) (fun c10 => ?_)
  · have c10 : ¬ sm &&& (lv b) = 0 := c10
    refine lv_aload_n hx hb dX0_shrink_14 rfl (lv_at hl 1 rfl) ?_
    refine lv_iload_n hx hb dX0_shrink_15 rfl (lv_at hl 2 rfl) ?_
    refine il_callR (As := [.int (nI b)]) (rest := []) (v := il_behind fr b) hF hK hP 0 rfl rfl (metX0_behind l dC dI h0 q1 q2 q3 q4 q5 d to fr us se lv b hb12) (cwV 1 hts (lw_V q80 q82 qs7 q20 q83) rfl rfl rfl (by decide +kernel) ⟨Nat.le_of_ble_eq_true rfl, Nat.le_of_ble_eq_true rfl⟩) rfl hl.1 (Nat.le_of_ble_eq_true rfl) dX0_shrink_16 ⟨Nat.le_of_ble_eq_true rfl, Nat.le_of_ble_eq_true rfl⟩ rfl ?_
    refine lv_istore (lv' := [(4, .int (il_behind fr b)), (3, .int (sm &&& (lv b))), (0, .ref h0), (1, .int (nI b)), (2, .int sm)]) hx hb dX0_shrink_19 hl (by decide) rfl (fun ls hl => ?_)
    refine lv_iconst (v := 0) hx hb dX0_shrink_21 (by decide) ?_
    refine lv_istore (lv' := [(5, .int 0), (4, .int (il_behind fr b)), (3, .int (sm &&& (lv b))), (0, .ref h0), (1, .int (nI b)), (2, .int sm)]) hx hb dX0_shrink_22 hl (by decide) rfl (fun ls hl => ?_)
    have L24 : ∀ (n24 : Nat) (i : Nat) (lv1 : il_F), 13 ≤ i + n24 → i ≤ 12 → lv1 = il_up (il_shC (il_behind fr b) (sm &&& lv b)) i lv → ∀ (H : Heap) (locs : List Loc), va_P (dC, dI) vwCl (WX h0 q1 q2 q3 q4 q5 d to fr us se lv1) H → va_D A (WX h0 q1 q2 q3 q4 q5 d to fr us se lv1) → va_S A s.heap H locs → ∀ ls : Array Slot, lv_has ls 9 [(0, .ref h0), (1, .int (nI b)), (2, .int sm), (3, .int (sm &&& lv b)), (4, .int (il_behind fr b)), (5, .int (nI i))] → W p l e (headSpec wsX0_shrink rmX0_shrink).room s m args below meth c H locs 0 0 Q (F0 m 24 ls []) := by
      intro n24
      induction n24 with
      | zero =>
        intro i lv1 hfu hi e1
        exact absurd hfu (by omega)
      | succ n24 ih24 =>
        intro i lv1 hfu hi e1 H locs hP hD hS ls hl
        refine lv_iload hx hb dX0_shrink_24 (lv_at hl 5 rfl) ?_
        refine lv_bipush (v := 12) hx hb dX0_shrink_26 (by decide) ?_
        refine lv_icmp_ge (tgt := 66) hx hb dX0_shrink_28 (by decide) (fun c28 => ?_) (fun c28 => ?_)
        · have c28 : 12 ≤ nI i := c28
          have h28 : 12 ≤ i := il_ge (N := 12) (i := i) c28 (by omega) (by omega)
          refine lv_iconst (v := 1) hx hb dX0_shrink_66 (by decide) ?_
          refine lv_istore (lv' := [(5, .int 1), (0, .ref h0), (1, .int (nI b)), (2, .int sm), (3, .int (sm &&& lv b)), (4, .int (il_behind fr b))]) hx hb dX0_shrink_67 hl (by decide) rfl (fun ls hl => ?_)
          refine lv_iconst (v := 0) hx hb dX0_shrink_69 (by decide) ?_
          refine lv_istore (lv' := [(6, .int 0), (5, .int 1), (0, .ref h0), (1, .int (nI b)), (2, .int sm), (3, .int (sm &&& lv b)), (4, .int (il_behind fr b))]) hx hb dX0_shrink_70 hl (by decide) rfl (fun ls hl => ?_)
          have L72 : ∀ (n72 : Nat) (r : Nat) (lv2 : il_F) (x5 : Int32), 242 ≤ r + n72 → r ≤ 241 → il_shW to us se (il_behind fr b) (sm &&& lv b) (241 - r) (lv2, x5) = il_shrink to fr us se lv b sm → ∀ (H : Heap) (locs : List Loc), va_P (dC, dI) vwCl (WX h0 q1 q2 q3 q4 q5 d to fr us se lv2) H → va_D A (WX h0 q1 q2 q3 q4 q5 d to fr us se lv2) → va_S A s.heap H locs → ∀ ls : Array Slot, lv_has ls 9 [(0, .ref h0), (1, .int (nI b)), (2, .int sm), (3, .int (sm &&& lv b)), (4, .int (il_behind fr b)), (5, .int x5), (6, .int (nI r))] → W p l e (headSpec wsX0_shrink rmX0_shrink).room s m args below meth c H locs 0 0 Q (F0 m 72 ls []) := by
            intro n72
            induction n72 with
            | zero =>
              intro r lv2 x5 hfu hr1 er
              exact absurd hfu (by omega)
            | succ n72 ih72 =>
              intro r lv2 x5 hfu hr1 er H locs hP hD hS ls hl
              refine lv_iload hx hb dX0_shrink_72 (lv_at hl 6 rfl) ?_
              refine lv_sipush (v := 241) hx hb dX0_shrink_74 (by decide) ?_
              refine lv_icmp_ge (tgt := 165) hx hb dX0_shrink_77 (by decide) (fun c77 => ?_) (fun c77 => ?_)
              · have c77 : 241 ≤ nI r := c77
                have h77 : 241 ≤ r := il_ge (N := 241) (i := r) c77 (by omega) (by omega)
                exact il_retv hx hb hr hlocks dX0_shrink_165 hQ hK hP hD hS (by rw [← er, show 241 - r = 0 by omega, il_shW_z])
              · have c77 : ¬ 241 ≤ nI r := c77
                have h77 : r < 241 := il_nge (N := 241) (i := r) c77 (by omega)
                refine lv_iload hx hb dX0_shrink_80 (lv_at hl 5 rfl) ?_
                refine lv_if_eq (tgt := 165) hx hb dX0_shrink_82 (by decide) (fun c82 => ?_) (fun c82 => ?_)
                · have c82 : x5 = 0 := c82
                  exact il_retv hx hb hr hlocks dX0_shrink_165 hQ hK hP hD hS (by rw [← er, il_shW_0 c82])
                · have c82 : ¬ x5 = 0 := c82
                  refine lv_iconst (v := 0) hx hb dX0_shrink_85 (by decide) ?_
                  refine lv_istore (lv' := [(5, .int 0), (0, .ref h0), (1, .int (nI b)), (2, .int sm), (3, .int (sm &&& lv b)), (4, .int (il_behind fr b)), (6, .int (nI r))]) hx hb dX0_shrink_86 hl (by decide) rfl (fun ls hl => ?_)
                  refine lv_bipush (v := 11) hx hb dX0_shrink_88 (by decide) ?_
                  refine lv_istore (lv' := [(7, .int 11), (5, .int 0), (0, .ref h0), (1, .int (nI b)), (2, .int sm), (3, .int (sm &&& lv b)), (4, .int (il_behind fr b)), (6, .int (nI r))]) hx hb dX0_shrink_90 hl (by decide) rfl (fun ls hl => ?_)
                  have L92 : ∀ (n92 : Nat) (j : Nat) (lv3 : il_F) (y5 : Int32) (x7 : Int32), j + 1 ≤ n92 → j ≤ 12 → il_dn (fun i st => il_shS to us se (il_behind fr b) (sm &&& lv b) i st.1 st.2) j (lv3, y5) = il_shR to us se (il_behind fr b) (sm &&& lv b) lv2 → x7 = nI j + (-1) → ∀ (H : Heap) (locs : List Loc), va_P (dC, dI) vwCl (WX h0 q1 q2 q3 q4 q5 d to fr us se lv3) H → va_D A (WX h0 q1 q2 q3 q4 q5 d to fr us se lv3) → va_S A s.heap H locs → ∀ ls : Array Slot, lv_has ls 9 [(0, .ref h0), (1, .int (nI b)), (2, .int sm), (3, .int (sm &&& lv b)), (4, .int (il_behind fr b)), (5, .int y5), (6, .int (nI r)), (7, .int x7)] → W p l e (headSpec wsX0_shrink rmX0_shrink).room s m args below meth c H locs 0 0 Q (F0 m 92 ls []) := by
                    intro n92
                    induction n92 with
                    | zero =>
                      intro j lv3 y5 x7 hfu hj ej e7
                      exact absurd hfu (by omega)
                    | succ n92 ih92 =>
                      intro j lv3 y5 x7 hfu hj ej e7 H locs hP hD hS ls hl
                      refine lv_iload hx hb dX0_shrink_92 (lv_at hl 7 rfl) ?_
                      refine lv_if_lt (tgt := 159) hx hb dX0_shrink_94 (by decide) (fun c94 => ?_) (fun c94 => ?_)
                      · have c94 : x7 < 0 := c94
                        have hj0 : j = 0 := by
                          cases j with
                          | zero => rfl
                          | succ k => exact absurd (show nI k < 0 by rw [← pk_m1 k, ← e7]; exact c94) (nI_pos (by omega))
                        refine lv_iinc (v := nI (r + 1)) (lv' := [(6, .int (nI (r + 1))), (0, .ref h0), (1, .int (nI b)), (2, .int sm), (3, .int (sm &&& lv b)), (4, .int (il_behind fr b)), (5, .int y5), (7, .int x7)]) hx hb dX0_shrink_159 hl (k := 6) rfl (nI_1 r) (by decide) rfl (fun ls hl => ?_)
                        refine lv_goto (tgt := 72) hx hb dX0_shrink_162 (by decide) ?_
                        exact ih72 (r + 1) lv3 y5 (by omega) (by omega) (by rw [← er, show 241 - r = (241 - (r + 1)) + 1 by omega, il_shW_s c82, ← ej, hj0, il_dn_0]) _ _ hP hD hS ls (lv_sub hl [1, 2, 3, 4, 5, 6, 0] rfl)
                      · have c94 : ¬ x7 < 0 := c94
                        obtain ⟨k, rfl⟩ : ∃ k, j = k + 1 := by
                          cases j with
                          | zero => exact absurd (show x7 < 0 by rw [e7]; decide) c94
                          | succ k => exact ⟨k, rfl⟩
                        obtain rfl : x7 = nI k := by rw [e7]; exact pk_m1 k
                        have hk12 : k < 12 := by omega
                        refine lv_iload hx hb dX0_shrink_97 (lv_at hl 4 rfl) ?_
                        refine lv_iload hx hb dX0_shrink_99 (lv_at hl 7 rfl) ?_
                        refine lv_ishr hx hb dX0_shrink_101 ?_
                        refine lv_iconst (v := 1) hx hb dX0_shrink_102 (by decide) ?_
                        refine lv_iand hx hb dX0_shrink_103 ?_
                        refine lv_iconst (v := 1) hx hb dX0_shrink_104 (by decide) ?_
                        refine lv_icmp_ne (tgt := 153) hx hb dX0_shrink_105 (by decide) (fun c105 => ?_) (fun c105 => ?_)
                        · have c105 : ¬ il_b (il_behind fr b) k = 1 := c105
                          refine lv_iinc (v := nI k + (-1)) (lv' := [(7, .int (nI k + (-1))), (0, .ref h0), (1, .int (nI b)), (2, .int sm), (3, .int (sm &&& lv b)), (4, .int (il_behind fr b)), (5, .int y5), (6, .int (nI r))]) hx hb dX0_shrink_153 hl (k := 7) rfl rfl (by decide) rfl (fun ls hl => ?_)
                          refine lv_goto (tgt := 92) hx hb dX0_shrink_156 (by decide) ?_
                          exact ih92 k lv3 y5 (nI k + (-1)) (by omega) (by omega) (by rw [← ej, il_dn_s]; show _ = il_dn _ k (il_shS to us se (il_behind fr b) (sm &&& lv b) k lv3 y5); rw [il_shS, if_neg c105]) rfl _ _ hP hD hS ls (lv_sub hl [1, 2, 3, 4, 5, 6, 7, 0] rfl)
                        · have c105 : il_b (il_behind fr b) k = 1 := c105
                          refine lv_aload_n hx hb dX0_shrink_108 rfl (lv_at hl 0 rfl) ?_
                          refine lv_iload hx hb dX0_shrink_109 (lv_at hl 7 rfl) ?_
                          refine il_callR (As := [.int (nI k)]) (rest := []) (v := il_due to us se lv3 k) hF hK hP 0 rfl rfl (metX0_due l dC dI h0 q1 q2 q3 q4 q5 d to fr us se lv3 k hk12) (cwV 1 hts (lw_V q63 q65 qs3 q20 q66) rfl rfl rfl (by decide +kernel) ⟨Nat.le_of_ble_eq_true rfl, Nat.le_of_ble_eq_true rfl⟩) rfl hl.1 (Nat.le_of_ble_eq_true rfl) dX0_shrink_111 ⟨Nat.le_of_ble_eq_true rfl, Nat.le_of_ble_eq_true rfl⟩ rfl ?_
                          refine lv_iload_n hx hb dX0_shrink_114 rfl (lv_at hl 3 rfl) ?_
                          refine lv_iand hx hb dX0_shrink_115 ?_
                          refine lv_istore (lv' := [(8, .int ((il_due to us se lv3 k) &&& (sm &&& lv b))), (0, .ref h0), (1, .int (nI b)), (2, .int sm), (3, .int (sm &&& lv b)), (4, .int (il_behind fr b)), (5, .int y5), (6, .int (nI r)), (7, .int (nI k))]) hx hb dX0_shrink_116 hl (by decide) rfl (fun ls hl => ?_)
                          refine lv_iload hx hb dX0_shrink_118 (lv_at hl 0 rfl) ?_
                          refine lv_aload_n hx hb dX0_shrink_120 rfl (lv_at hl 1 rfl) ?_
                          refine va_get (D := (dC, dI)) (ci := 0) (v := .ref q5) (C := RX0) (T := TX0) (N := 5) hx hb hts in_X0 hown hK hP 0 rfl rfl 4 (by decide) (hts _ q34) (fun _ h9 => h9) rfl dX0_shrink_121 ?_
                          refine lv_iload hx hb dX0_shrink_124 (lv_at hl 8 rfl) ?_
                          refine il_ld hx hb hK hP 5 0 rfl rfl hk12 (by decide) dX0_shrink_126 ?_
                          refine lv_iconst (v := (-1)) hx hb dX0_shrink_127 (by decide) ?_
                          refine lv_ixor hx hb dX0_shrink_128 ?_
                          refine lv_iand hx hb dX0_shrink_129 ?_
                          refine lv_if_eq (tgt := 153) hx hb dX0_shrink_130 (by decide) (fun c130 => ?_) (fun c130 => ?_)
                          · have c130 : ((il_due to us se lv3 k) &&& (sm &&& lv b)) &&& (il_n (lv3 k)) = 0 := c130
                            refine lv_iinc (v := nI k + (-1)) (lv' := [(7, .int (nI k + (-1))), (8, .int ((il_due to us se lv3 k) &&& (sm &&& lv b))), (0, .ref h0), (1, .int (nI b)), (2, .int sm), (3, .int (sm &&& lv b)), (4, .int (il_behind fr b)), (5, .int y5), (6, .int (nI r))]) hx hb dX0_shrink_153 hl (k := 8) rfl rfl (by decide) rfl (fun ls hl => ?_)
                            refine lv_goto (tgt := 92) hx hb dX0_shrink_156 (by decide) ?_
                            exact ih92 k lv3 y5 (nI k + (-1)) (by omega) (by omega) (by rw [← ej, il_dn_s]; show _ = il_dn _ k (il_shS to us se (il_behind fr b) (sm &&& lv b) k lv3 y5); rw [il_shS, if_pos c105, if_pos c130]) rfl _ _ hP hD hS ls (lv_sub hl [2, 3, 4, 5, 6, 7, 8, 0] rfl)
                          · have c130 : ¬ ((il_due to us se lv3 k) &&& (sm &&& lv b)) &&& (il_n (lv3 k)) = 0 := c130
                            refine lv_aload_n hx hb dX0_shrink_133 rfl (lv_at hl 1 rfl) ?_
                            refine va_get (D := (dC, dI)) (ci := 0) (v := .ref q5) (C := RX0) (T := TX0) (N := 5) hx hb hts in_X0 hown hK hP 0 rfl rfl 4 (by decide) (hts _ q34) (fun _ h9 => h9) rfl dX0_shrink_134 ?_
                            refine lv_iload hx hb dX0_shrink_137 (lv_at hl 8 rfl) ?_
                            refine lv_aload_n hx hb dX0_shrink_139 rfl (lv_at hl 1 rfl) ?_
                            refine va_get (D := (dC, dI)) (ci := 0) (v := .ref q5) (C := RX0) (T := TX0) (N := 5) hx hb hts in_X0 hown hK hP 0 rfl rfl 4 (by decide) (hts _ q34) (fun _ h9 => h9) rfl dX0_shrink_140 ?_
                            refine lv_iload hx hb dX0_shrink_143 (lv_at hl 8 rfl) ?_
                            refine il_ld hx hb hK hP 5 0 rfl rfl hk12 (by decide) dX0_shrink_145 ?_
                            refine lv_iload hx hb dX0_shrink_146 (lv_at hl 0 rfl) ?_
                            refine lv_ior hx hb dX0_shrink_148 ?_
                            refine il_st hx hb hK hP hD hS 5 0 rfl rfl hk12 (by decide) dX0_shrink_149 (fun H locs hP hD hS => ?_)
                            have hP : va_P (dC, dI) vwCl (WX h0 q1 q2 q3 q4 q5 d to fr us se (upd lv3 k ((lv3 k) ||| ((il_due to us se lv3 k) &&& (sm &&& lv b))))) H := hP
                            have hD : va_D A (WX h0 q1 q2 q3 q4 q5 d to fr us se (upd lv3 k ((lv3 k) ||| ((il_due to us se lv3 k) &&& (sm &&& lv b))))) := hD
                            refine lv_iconst (v := 1) hx hb dX0_shrink_150 (by decide) ?_
                            refine lv_istore (lv' := [(5, .int 1), (8, .int ((il_due to us se lv3 k) &&& (sm &&& lv b))), (0, .ref h0), (1, .int (nI b)), (2, .int sm), (3, .int (sm &&& lv b)), (4, .int (il_behind fr b)), (6, .int (nI r)), (7, .int (nI k))]) hx hb dX0_shrink_151 hl (by decide) rfl (fun ls hl => ?_)
                            refine lv_iinc (v := nI k + (-1)) (lv' := [(7, .int (nI k + (-1))), (5, .int 1), (8, .int ((il_due to us se lv3 k) &&& (sm &&& lv b))), (0, .ref h0), (1, .int (nI b)), (2, .int sm), (3, .int (sm &&& lv b)), (4, .int (il_behind fr b)), (6, .int (nI r))]) hx hb dX0_shrink_153 hl (k := 8) rfl rfl (by decide) rfl (fun ls hl => ?_)
                            refine lv_goto (tgt := 92) hx hb dX0_shrink_156 (by decide) ?_
                            exact ih92 k (upd lv3 k ((lv3 k) ||| ((il_due to us se lv3 k) &&& (sm &&& lv b)))) 1 (nI k + (-1)) (by omega) (by omega) (by rw [← ej, il_dn_s]; show _ = il_dn _ k (il_shS to us se (il_behind fr b) (sm &&& lv b) k lv3 y5); rw [il_shS, if_pos c105, if_neg c130]) rfl _ _ hP hD hS ls (lv_sub hl [3, 4, 5, 6, 7, 1, 8, 0] rfl)
                  exact L92 13 12 lv2 0 11 (by decide) (by decide) rfl (by decide) _ _ hP hD hS ls (lv_sub hl [2, 3, 4, 5, 6, 1, 7, 0] rfl)
          exact L72 242 0 lv1 1 (by decide) (by decide) (by show il_shW to us se _ _ 241 _ = _; rw [il_shrink, if_neg c10, e1, show i = 12 by omega]) _ _ hP hD hS ls (lv_sub hl [2, 3, 4, 5, 6, 1, 0] rfl)
        · have c28 : ¬ 12 ≤ nI i := c28
          have h28 : i < 12 := il_nge (N := 12) (i := i) c28 (by omega)
          refine lv_iload hx hb dX0_shrink_31 (lv_at hl 4 rfl) ?_
          refine lv_iload hx hb dX0_shrink_33 (lv_at hl 5 rfl) ?_
          refine lv_ishr hx hb dX0_shrink_35 ?_
          refine lv_iconst (v := 1) hx hb dX0_shrink_36 (by decide) ?_
          refine lv_iand hx hb dX0_shrink_37 ?_
          refine lv_iconst (v := 1) hx hb dX0_shrink_38 (by decide) ?_
          refine lv_icmp_ne (tgt := 60) hx hb dX0_shrink_39 (by decide) (fun c39 => ?_) (fun c39 => ?_)
          · have c39 : ¬ il_b (il_behind fr b) i = 1 := c39
            refine lv_iinc (v := nI (i + 1)) (lv' := [(5, .int (nI (i + 1))), (0, .ref h0), (1, .int (nI b)), (2, .int sm), (3, .int (sm &&& lv b)), (4, .int (il_behind fr b))]) hx hb dX0_shrink_60 hl (k := 5) rfl (nI_1 i) (by decide) rfl (fun ls hl => ?_)
            refine lv_goto (tgt := 24) hx hb dX0_shrink_63 (by decide) ?_
            exact ih24 (i + 1) lv1 (by omega) (by omega) (by rw [il_up_s, ← e1, il_shC, if_neg c39]) _ _ hP hD hS ls (lv_sub hl [1, 2, 3, 4, 5, 0] rfl)
          · have c39 : il_b (il_behind fr b) i = 1 := c39
            refine lv_aload_n hx hb dX0_shrink_42 rfl (lv_at hl 0 rfl) ?_
            refine va_get (D := (dC, dI)) (ci := 0) (v := .ref q5) (C := RX0) (T := TX0) (N := 5) hx hb hts in_X0 hown hK hP 0 rfl rfl 4 (by decide) (hts _ q34) (fun _ h9 => h9) rfl dX0_shrink_43 ?_
            refine lv_iload hx hb dX0_shrink_46 (lv_at hl 5 rfl) ?_
            refine lv_aload_n hx hb dX0_shrink_48 rfl (lv_at hl 0 rfl) ?_
            refine va_get (D := (dC, dI)) (ci := 0) (v := .ref q5) (C := RX0) (T := TX0) (N := 5) hx hb hts in_X0 hown hK hP 0 rfl rfl 4 (by decide) (hts _ q34) (fun _ h9 => h9) rfl dX0_shrink_49 ?_
            refine lv_iload hx hb dX0_shrink_52 (lv_at hl 5 rfl) ?_
            refine il_ld hx hb hK hP 5 0 rfl rfl h28 (by decide) dX0_shrink_54 ?_
            refine lv_iload_n hx hb dX0_shrink_55 rfl (lv_at hl 3 rfl) ?_
            refine lv_iconst (v := (-1)) hx hb dX0_shrink_56 (by decide) ?_
            refine lv_ixor hx hb dX0_shrink_57 ?_
            refine lv_iand hx hb dX0_shrink_58 ?_
            refine il_st hx hb hK hP hD hS 5 0 rfl rfl h28 (by decide) dX0_shrink_59 (fun H locs hP hD hS => ?_)
            have hP : va_P (dC, dI) vwCl (WX h0 q1 q2 q3 q4 q5 d to fr us se (upd lv1 i ((lv1 i) &&& (il_n (sm &&& lv b))))) H := hP
            have hD : va_D A (WX h0 q1 q2 q3 q4 q5 d to fr us se (upd lv1 i ((lv1 i) &&& (il_n (sm &&& lv b))))) := hD
            refine lv_iinc (v := nI (i + 1)) (lv' := [(5, .int (nI (i + 1))), (0, .ref h0), (1, .int (nI b)), (2, .int sm), (3, .int (sm &&& lv b)), (4, .int (il_behind fr b))]) hx hb dX0_shrink_60 hl (k := 5) rfl (nI_1 i) (by decide) rfl (fun ls hl => ?_)
            refine lv_goto (tgt := 24) hx hb dX0_shrink_63 (by decide) ?_
            exact ih24 (i + 1) (upd lv1 i ((lv1 i) &&& (il_n (sm &&& lv b)))) (by omega) (by omega) (by rw [il_up_s, ← e1, il_shC, if_pos c39]) _ _ hP hD hS ls (lv_sub hl [1, 2, 3, 4, 5, 0] rfl)
    exact L24 13 0 lv (by decide) (by decide) rfl _ _ hP hD hS ls (lv_sub hl [3, 4, 5, 2, 1, 0] rfl)
  · have c10 : sm &&& (lv b) = 0 := c10
    exact il_retv hx hb hr hlocks dX0_shrink_13 hQ hK hP hD hS (by rw [il_shrink, if_pos c10])
abbrev wsX0_join : List Cond := ws_ yX0_join cX0_join 3 none
abbrev rmX0_join : Room := il_rm 3 70
set_option maxHeartbeats 4000000 in
set_option maxRecDepth 100000 in
/-- join(a, b) -/
theorem metX0_join (l : Launch) (dC : Nat → ClassId) (dI : Nat → Nat → Nat) (h0 q1 q2 q3 q4 q5 : Nat) (d : ClassId) (sz : Nat) (to fr us se lv : il_F) (a : Nat) (ha : a < 12) (b : Nat) (hb12 : b < 12) : Met l yX0_join wsX0_join rmX0_join (il_PM dC dI (WX h0 q1 q2 q3 q4 q5 d to fr us se lv) d sz [.ref h0, .int (nI a), .int (nI b)]) (va_Qv (fun _ : Unit => True) (il_B dC dI (va_A (WX h0 q1 q2 q3 q4 q5 d to fr us se lv) sz) (WX h0 q1 q2 q3 q4 q5 d ((il_join us se a b (to, fr, lv)).1) ((il_join us se a b (to, fr, lv)).2.1) us se ((il_join us se a b (to, fr, lv)).2.2)) d) (va_A (WX h0 q1 q2 q3 q4 q5 d to fr us se lv) sz)) 0 0 (va_A (WX h0 q1 q2 q3 q4 q5 d to fr us se lv) sz) := by
  refine Met.ofW (cc := cX0_join) (maxL := 3) (ret := none) (by decide) rfl ?_
  intro p e s m args below meth c s₁ B hml hv
  obtain ⟨hargs, hsz, hP, hK, hD0⟩ := hv
  have hx := B.exec
  have hb := B.bytes
  have hr := B.returns
  have hlocks := B.notSynchronized
  have hts : ∀ w ∈ lw_all, w.before args s = true := fun w h => atoms_spec (ws := wsX0_join) B.pre w (List.mem_cons_of_mem _ h)
  have hown : s.vm.findClass RX0 = some m.cls := findClass_of_methodNamed B.named
  have hF : CallFix p m c cX0_join 3 s args lw_all RX0 := ⟨hx, hb, hml, hown, hts⟩
  subst hsz
  have hD := hD0.self (sz := s.heap.size)
  generalize hAe : va_A (WX h0 q1 q2 q3 q4 q5 d to fr us se lv) s.heap.size = A at hD ⊢
  have hA : ∀ q : Nat, s.heap.size ≤ q → A q := fun q h => by rw [← hAe]; exact Or.inr h
  have hS : va_S A s.heap s.heap [] := va_S.rf
  refine il_entry (n := 3) (vs := [.ref h0, .int (nI a), .int (nI b)]) (Nat.le_of_ble_eq_true rfl) hargs (fun ls hl => ?_)
  have hl : lv_has ls 3 [(0, .ref h0), (1, .int (nI a)), (2, .int (nI b))] := hl
  generalize hQ : MQ below (va_Qv (fun _ : Unit => True) (il_B dC dI A (WX h0 q1 q2 q3 q4 q5 d ((il_join us se a b (to, fr, lv)).1) ((il_join us se a b (to, fr, lv)).2.1) us se ((il_join us se a b (to, fr, lv)).2.2)) d) A) args s 0 0 A = Q
  have hP : va_P (dC, dI) vwCl (WX h0 q1 q2 q3 q4 q5 d to fr us se lv) s.heap := hP
  refine lv_aload_n hx hb dX0_join_0 rfl (lv_at hl 0 rfl) ?_
  refine va_get (D := (dC, dI)) (ci := 0) (v := .ref q1) (C := RX0) (T := TX0) (N := 5) hx hb hts in_X0 hown hK hP 0 rfl rfl 0 (by decide) (hts _ q30) (fun _ h9 => h9) rfl dX0_join_1 ?_
  refine lv_iload_n hx hb dX0_join_4 rfl (lv_at hl 1 rfl) ?_
  refine il_ld hx hb hK hP 1 0 rfl rfl ha (by decide) dX0_join_5 ?_
  refine lv_iload_n hx hb dX0_join_6 rfl (lv_at hl 2 rfl) ?_
  refine lv_ishr hx hb dX0_join_7 ?_
  refine lv_iconst (v := 1) hx hb dX0_join_8 (by decide) ?_
  refine lv_iand hx hb dX0_join_9 ?_
  refine lv_if_ne (tgt := 50) hx hb dX0_join_10 (by decide) (fun c10 => ?_) (fun c10 => ?_)
  · have c10 : ¬ il_b (to a) b = 0 := c10
    exact il_retv hx hb hr hlocks dX0_join_50 hQ hK hP hD hS (by rw [il_join_f c10])
  · have c10 : il_b (to a) b = 0 := c10
    refine lv_aload_n hx hb dX0_join_13 rfl (lv_at hl 0 rfl) ?_
    refine va_get (D := (dC, dI)) (ci := 0) (v := .ref q1) (C := RX0) (T := TX0) (N := 5) hx hb hts in_X0 hown hK hP 0 rfl rfl 0 (by decide) (hts _ q30) (fun _ h9 => h9) rfl dX0_join_14 ?_
    refine lv_iload_n hx hb dX0_join_17 rfl (lv_at hl 1 rfl) ?_
    refine lv_aload_n hx hb dX0_join_18 rfl (lv_at hl 0 rfl) ?_
    refine va_get (D := (dC, dI)) (ci := 0) (v := .ref q1) (C := RX0) (T := TX0) (N := 5) hx hb hts in_X0 hown hK hP 0 rfl rfl 0 (by decide) (hts _ q30) (fun _ h9 => h9) rfl dX0_join_19 ?_
    refine lv_iload_n hx hb dX0_join_22 rfl (lv_at hl 1 rfl) ?_
    refine il_ld hx hb hK hP 1 0 rfl rfl ha (by decide) dX0_join_23 ?_
    refine lv_iconst (v := 1) hx hb dX0_join_24 (by decide) ?_
    refine lv_iload_n hx hb dX0_join_25 rfl (lv_at hl 2 rfl) ?_
    refine lv_ishl hx hb dX0_join_26 ?_
    refine lv_ior hx hb dX0_join_27 ?_
    refine il_st hx hb hK hP hD hS 1 0 rfl rfl ha (by decide) dX0_join_28 (fun H locs hP hD hS => ?_)
    have hP : va_P (dC, dI) vwCl (WX h0 q1 q2 q3 q4 q5 d (upd to a ((to a) ||| (il_o b))) fr us se lv) H := hP
    have hD : va_D A (WX h0 q1 q2 q3 q4 q5 d (upd to a ((to a) ||| (il_o b))) fr us se lv) := hD
    refine lv_aload_n hx hb dX0_join_29 rfl (lv_at hl 0 rfl) ?_
    refine va_get (D := (dC, dI)) (ci := 0) (v := .ref q2) (C := RX0) (T := TX0) (N := 5) hx hb hts in_X0 hown hK hP 0 rfl rfl 1 (by decide) (hts _ q31) (fun _ h9 => h9) rfl dX0_join_30 ?_
    refine lv_iload_n hx hb dX0_join_33 rfl (lv_at hl 2 rfl) ?_
    refine lv_aload_n hx hb dX0_join_34 rfl (lv_at hl 0 rfl) ?_
    refine va_get (D := (dC, dI)) (ci := 0) (v := .ref q2) (C := RX0) (T := TX0) (N := 5) hx hb hts in_X0 hown hK hP 0 rfl rfl 1 (by decide) (hts _ q31) (fun _ h9 => h9) rfl dX0_join_35 ?_
    refine lv_iload_n hx hb dX0_join_38 rfl (lv_at hl 2 rfl) ?_
    refine il_ld hx hb hK hP 2 0 rfl rfl hb12 (by decide) dX0_join_39 ?_
    refine lv_iconst (v := 1) hx hb dX0_join_40 (by decide) ?_
    refine lv_iload_n hx hb dX0_join_41 rfl (lv_at hl 1 rfl) ?_
    refine lv_ishl hx hb dX0_join_42 ?_
    refine lv_ior hx hb dX0_join_43 ?_
    refine il_st hx hb hK hP hD hS 2 0 rfl rfl hb12 (by decide) dX0_join_44 (fun H locs hP hD hS => ?_)
    have hP : va_P (dC, dI) vwCl (WX h0 q1 q2 q3 q4 q5 d (upd to a ((to a) ||| (il_o b))) (upd fr b ((fr b) ||| (il_o a))) us se lv) H := hP
    have hD : va_D A (WX h0 q1 q2 q3 q4 q5 d (upd to a ((to a) ||| (il_o b))) (upd fr b ((fr b) ||| (il_o a))) us se lv) := hD
    refine lv_aload_n hx hb dX0_join_45 rfl (lv_at hl 0 rfl) ?_
    refine lv_iload_n hx hb dX0_join_46 rfl (lv_at hl 1 rfl) ?_
    refine il_callMv (As := [.int (nI a)]) (rest := []) (ws := WX h0 q1 q2 q3 q4 q5 d (upd to a ((to a) ||| (il_o b))) (upd fr b ((fr b) ||| (il_o a))) us se lv) (wr := []) (ws1 := WX h0 q1 q2 q3 q4 q5 d (upd to a ((to a) ||| (il_o b))) (upd fr b ((fr b) ||| (il_o a))) us se (il_spread (upd to a ((to a) ||| (il_o b))) (upd fr b ((fr b) ||| (il_o a))) us se lv a)) hF hK hP hD hS hA [0, 1, 2, 3, 4, 5] [] rfl rfl (by decide) (by decide) (by decide) hP 0 rfl rfl (metX0_spread l dC dI h0 q1 q2 q3 q4 q5 d _ (upd to a ((to a) ||| (il_o b))) (upd fr b ((fr b) ||| (il_o a))) us se lv a ha) (cwV 1 hts (lw_V q59 q61 qs2 q20 q62) rfl rfl rfl (by decide +kernel) ⟨Nat.le_of_ble_eq_true rfl, Nat.le_of_ble_eq_true rfl⟩) rfl hl.1 (Nat.le_of_ble_eq_true rfl) dX0_join_47 ⟨Nat.le_of_ble_eq_true rfl, Nat.le_of_ble_eq_true rfl⟩ rfl (fun H locs hP hD hS => ?_)
    have hP : va_P (dC, dI) vwCl (WX h0 q1 q2 q3 q4 q5 d (upd to a ((to a) ||| (il_o b))) (upd fr b ((fr b) ||| (il_o a))) us se (il_spread (upd to a ((to a) ||| (il_o b))) (upd fr b ((fr b) ||| (il_o a))) us se lv a)) H := hP
    have hD : va_D A (WX h0 q1 q2 q3 q4 q5 d (upd to a ((to a) ||| (il_o b))) (upd fr b ((fr b) ||| (il_o a))) us se (il_spread (upd to a ((to a) ||| (il_o b))) (upd fr b ((fr b) ||| (il_o a))) us se lv a)) := hD
    exact il_retv hx hb hr hlocks dX0_join_50 hQ hK hP hD hS (by rw [il_join_t c10])
abbrev wsX0_part : List Cond := ws_ yX0_part cX0_part 3 none
abbrev rmX0_part : Room := il_rm 3 72
set_option maxHeartbeats 4000000 in
set_option maxRecDepth 100000 in
/-- part(a, b) -/
theorem metX0_part (l : Launch) (dC : Nat → ClassId) (dI : Nat → Nat → Nat) (h0 q1 q2 q3 q4 q5 : Nat) (d : ClassId) (sz : Nat) (to fr us se lv : il_F) (a : Nat) (ha : a < 12) (b : Nat) (hb12 : b < 12) : Met l yX0_part wsX0_part rmX0_part (il_PM dC dI (WX h0 q1 q2 q3 q4 q5 d to fr us se lv) d sz [.ref h0, .int (nI a), .int (nI b)]) (va_Qv (fun _ : Unit => True) (il_B dC dI (va_A (WX h0 q1 q2 q3 q4 q5 d to fr us se lv) sz) (WX h0 q1 q2 q3 q4 q5 d ((il_part us se a b (to, fr, lv)).1) ((il_part us se a b (to, fr, lv)).2.1) us se ((il_part us se a b (to, fr, lv)).2.2)) d) (va_A (WX h0 q1 q2 q3 q4 q5 d to fr us se lv) sz)) 0 0 (va_A (WX h0 q1 q2 q3 q4 q5 d to fr us se lv) sz) := by
  refine Met.ofW (cc := cX0_part) (maxL := 3) (ret := none) (by decide) rfl ?_
  intro p e s m args below meth c s₁ B hml hv
  obtain ⟨hargs, hsz, hP, hK, hD0⟩ := hv
  have hx := B.exec
  have hb := B.bytes
  have hr := B.returns
  have hlocks := B.notSynchronized
  have hts : ∀ w ∈ lw_all, w.before args s = true := fun w h => atoms_spec (ws := wsX0_part) B.pre w (List.mem_cons_of_mem _ h)
  have hown : s.vm.findClass RX0 = some m.cls := findClass_of_methodNamed B.named
  have hF : CallFix p m c cX0_part 3 s args lw_all RX0 := ⟨hx, hb, hml, hown, hts⟩
  subst hsz
  have hD := hD0.self (sz := s.heap.size)
  generalize hAe : va_A (WX h0 q1 q2 q3 q4 q5 d to fr us se lv) s.heap.size = A at hD ⊢
  have hA : ∀ q : Nat, s.heap.size ≤ q → A q := fun q h => by rw [← hAe]; exact Or.inr h
  have hS : va_S A s.heap s.heap [] := va_S.rf
  refine il_entry (n := 3) (vs := [.ref h0, .int (nI a), .int (nI b)]) (Nat.le_of_ble_eq_true rfl) hargs (fun ls hl => ?_)
  have hl : lv_has ls 3 [(0, .ref h0), (1, .int (nI a)), (2, .int (nI b))] := hl
  generalize hQ : MQ below (va_Qv (fun _ : Unit => True) (il_B dC dI A (WX h0 q1 q2 q3 q4 q5 d ((il_part us se a b (to, fr, lv)).1) ((il_part us se a b (to, fr, lv)).2.1) us se ((il_part us se a b (to, fr, lv)).2.2)) d) A) args s 0 0 A = Q
  have hP : va_P (dC, dI) vwCl (WX h0 q1 q2 q3 q4 q5 d to fr us se lv) s.heap := hP
  refine lv_aload_n hx hb dX0_part_0 rfl (lv_at hl 0 rfl) ?_
  refine va_get (D := (dC, dI)) (ci := 0) (v := .ref q1) (C := RX0) (T := TX0) (N := 5) hx hb hts in_X0 hown hK hP 0 rfl rfl 0 (by decide) (hts _ q30) (fun _ h9 => h9) rfl dX0_part_1 ?_
  refine lv_iload_n hx hb dX0_part_4 rfl (lv_at hl 1 rfl) ?_
  refine il_ld hx hb hK hP 1 0 rfl rfl ha (by decide) dX0_part_5 ?_
  refine lv_iload_n hx hb dX0_part_6 rfl (lv_at hl 2 rfl) ?_
  refine lv_ishr hx hb dX0_part_7 ?_
  refine lv_iconst (v := 1) hx hb dX0_part_8 (by decide) ?_
  refine lv_iand hx hb dX0_part_9 ?_
  refine lv_iconst (v := 1) hx hb dX0_part_10 (by decide) ?_
  refine lv_icmp_ne (tgt := 57) hx hb dX0_part_11 (by decide) (fun c11 => ?_) (fun c11 => ?_)
  · have c11 : ¬ il_b (to a) b = 1 := c11
    exact il_retv hx hb hr hlocks dX0_part_57 hQ hK hP hD hS (by rw [il_part_f c11])
  · have c11 : il_b (to a) b = 1 := c11
    refine lv_aload_n hx hb dX0_part_14 rfl (lv_at hl 0 rfl) ?_
    refine va_get (D := (dC, dI)) (ci := 0) (v := .ref q1) (C := RX0) (T := TX0) (N := 5) hx hb hts in_X0 hown hK hP 0 rfl rfl 0 (by decide) (hts _ q30) (fun _ h9 => h9) rfl dX0_part_15 ?_
    refine lv_iload_n hx hb dX0_part_18 rfl (lv_at hl 1 rfl) ?_
    refine lv_aload_n hx hb dX0_part_19 rfl (lv_at hl 0 rfl) ?_
    refine va_get (D := (dC, dI)) (ci := 0) (v := .ref q1) (C := RX0) (T := TX0) (N := 5) hx hb hts in_X0 hown hK hP 0 rfl rfl 0 (by decide) (hts _ q30) (fun _ h9 => h9) rfl dX0_part_20 ?_
    refine lv_iload_n hx hb dX0_part_23 rfl (lv_at hl 1 rfl) ?_
    refine il_ld hx hb hK hP 1 0 rfl rfl ha (by decide) dX0_part_24 ?_
    refine lv_iconst (v := 1) hx hb dX0_part_25 (by decide) ?_
    refine lv_iload_n hx hb dX0_part_26 rfl (lv_at hl 2 rfl) ?_
    refine lv_ishl hx hb dX0_part_27 ?_
    refine lv_iconst (v := (-1)) hx hb dX0_part_28 (by decide) ?_
    refine lv_ixor hx hb dX0_part_29 ?_
    refine lv_iand hx hb dX0_part_30 ?_
    refine il_st hx hb hK hP hD hS 1 0 rfl rfl ha (by decide) dX0_part_31 (fun H locs hP hD hS => ?_)
    have hP : va_P (dC, dI) vwCl (WX h0 q1 q2 q3 q4 q5 d (upd to a ((to a) &&& (il_n (il_o b)))) fr us se lv) H := hP
    have hD : va_D A (WX h0 q1 q2 q3 q4 q5 d (upd to a ((to a) &&& (il_n (il_o b)))) fr us se lv) := hD
    refine lv_aload_n hx hb dX0_part_32 rfl (lv_at hl 0 rfl) ?_
    refine va_get (D := (dC, dI)) (ci := 0) (v := .ref q2) (C := RX0) (T := TX0) (N := 5) hx hb hts in_X0 hown hK hP 0 rfl rfl 1 (by decide) (hts _ q31) (fun _ h9 => h9) rfl dX0_part_33 ?_
    refine lv_iload_n hx hb dX0_part_36 rfl (lv_at hl 2 rfl) ?_
    refine lv_aload_n hx hb dX0_part_37 rfl (lv_at hl 0 rfl) ?_
    refine va_get (D := (dC, dI)) (ci := 0) (v := .ref q2) (C := RX0) (T := TX0) (N := 5) hx hb hts in_X0 hown hK hP 0 rfl rfl 1 (by decide) (hts _ q31) (fun _ h9 => h9) rfl dX0_part_38 ?_
    refine lv_iload_n hx hb dX0_part_41 rfl (lv_at hl 2 rfl) ?_
    refine il_ld hx hb hK hP 2 0 rfl rfl hb12 (by decide) dX0_part_42 ?_
    refine lv_iconst (v := 1) hx hb dX0_part_43 (by decide) ?_
    refine lv_iload_n hx hb dX0_part_44 rfl (lv_at hl 1 rfl) ?_
    refine lv_ishl hx hb dX0_part_45 ?_
    refine lv_iconst (v := (-1)) hx hb dX0_part_46 (by decide) ?_
    refine lv_ixor hx hb dX0_part_47 ?_
    refine lv_iand hx hb dX0_part_48 ?_
    refine il_st hx hb hK hP hD hS 2 0 rfl rfl hb12 (by decide) dX0_part_49 (fun H locs hP hD hS => ?_)
    have hP : va_P (dC, dI) vwCl (WX h0 q1 q2 q3 q4 q5 d (upd to a ((to a) &&& (il_n (il_o b)))) (upd fr b ((fr b) &&& (il_n (il_o a)))) us se lv) H := hP
    have hD : va_D A (WX h0 q1 q2 q3 q4 q5 d (upd to a ((to a) &&& (il_n (il_o b)))) (upd fr b ((fr b) &&& (il_n (il_o a)))) us se lv) := hD
    refine lv_aload_n hx hb dX0_part_50 rfl (lv_at hl 0 rfl) ?_
    refine lv_iload_n hx hb dX0_part_51 rfl (lv_at hl 1 rfl) ?_
    refine lv_ldc (v := 1048575) hx hb hown (hts _ q75) dX0_part_52 ?_
    refine il_callMv (As := [.int (nI a), .int 1048575]) (rest := []) (ws := WX h0 q1 q2 q3 q4 q5 d (upd to a ((to a) &&& (il_n (il_o b)))) (upd fr b ((fr b) &&& (il_n (il_o a)))) us se lv) (wr := []) (ws1 := WX h0 q1 q2 q3 q4 q5 d (upd to a ((to a) &&& (il_n (il_o b)))) (upd fr b ((fr b) &&& (il_n (il_o a)))) us se (il_shrink (upd to a ((to a) &&& (il_n (il_o b)))) (upd fr b ((fr b) &&& (il_n (il_o a)))) us se lv a 1048575)) hF hK hP hD hS hA [0, 1, 2, 3, 4, 5] [] rfl rfl (by decide) (by decide) (by decide) hP 0 rfl rfl (metX0_shrink l dC dI h0 q1 q2 q3 q4 q5 d _ (upd to a ((to a) &&& (il_n (il_o b)))) (upd fr b ((fr b) &&& (il_n (il_o a)))) us se lv a ha 1048575) (cwV 2 hts (lw_V q76 q78 qs6 q20 q79) rfl rfl rfl (by decide +kernel) ⟨Nat.le_of_ble_eq_true rfl, Nat.le_of_ble_eq_true rfl⟩) rfl hl.1 (Nat.le_of_ble_eq_true rfl) dX0_part_54 ⟨Nat.le_of_ble_eq_true rfl, Nat.le_of_ble_eq_true rfl⟩ rfl (fun H locs hP hD hS => ?_)
    have hP : va_P (dC, dI) vwCl (WX h0 q1 q2 q3 q4 q5 d (upd to a ((to a) &&& (il_n (il_o b)))) (upd fr b ((fr b) &&& (il_n (il_o a)))) us se (il_shrink (upd to a ((to a) &&& (il_n (il_o b)))) (upd fr b ((fr b) &&& (il_n (il_o a)))) us se lv a 1048575)) H := hP
    have hD : va_D A (WX h0 q1 q2 q3 q4 q5 d (upd to a ((to a) &&& (il_n (il_o b)))) (upd fr b ((fr b) &&& (il_n (il_o a)))) us se (il_shrink (upd to a ((to a) &&& (il_n (il_o b)))) (upd fr b ((fr b) &&& (il_n (il_o a)))) us se lv a 1048575)) := hD
    exact il_retv hx hb hr hlocks dX0_part_57 hQ hK hP hD hS (by rw [il_part_t c11])
abbrev wsX0_change : List Cond := ws_ yX0_change cX0_change 5 none
abbrev rmX0_change : Room := il_rm 3 72
set_option maxHeartbeats 4000000 in
set_option maxRecDepth 100000 in
/-- change(b, uses, sets) -/
theorem metX0_change (l : Launch) (dC : Nat → ClassId) (dI : Nat → Nat → Nat) (h0 q1 q2 q3 q4 q5 : Nat) (d : ClassId) (sz : Nat) (to fr us se lv : il_F) (b : Nat) (hb12 : b < 12) (nu ns : Int32) : Met l yX0_change wsX0_change rmX0_change (il_PM dC dI (WX h0 q1 q2 q3 q4 q5 d to fr us se lv) d sz [.ref h0, .int (nI b), .int nu, .int ns]) (va_Qv (fun _ : Unit => True) (il_B dC dI (va_A (WX h0 q1 q2 q3 q4 q5 d to fr us se lv) sz) (WX h0 q1 q2 q3 q4 q5 d to fr (upd us b nu) (upd se b ns) (il_change to fr us se lv b nu ns)) d) (va_A (WX h0 q1 q2 q3 q4 q5 d to fr us se lv) sz)) 0 0 (va_A (WX h0 q1 q2 q3 q4 q5 d to fr us se lv) sz) := by
  refine Met.ofW (cc := cX0_change) (maxL := 5) (ret := none) (by decide) rfl ?_
  intro p e s m args below meth c s₁ B hml hv
  obtain ⟨hargs, hsz, hP, hK, hD0⟩ := hv
  have hx := B.exec
  have hb := B.bytes
  have hr := B.returns
  have hlocks := B.notSynchronized
  have hts : ∀ w ∈ lw_all, w.before args s = true := fun w h => atoms_spec (ws := wsX0_change) B.pre w (List.mem_cons_of_mem _ h)
  have hown : s.vm.findClass RX0 = some m.cls := findClass_of_methodNamed B.named
  have hF : CallFix p m c cX0_change 5 s args lw_all RX0 := ⟨hx, hb, hml, hown, hts⟩
  subst hsz
  have hD := hD0.self (sz := s.heap.size)
  generalize hAe : va_A (WX h0 q1 q2 q3 q4 q5 d to fr us se lv) s.heap.size = A at hD ⊢
  have hA : ∀ q : Nat, s.heap.size ≤ q → A q := fun q h => by rw [← hAe]; exact Or.inr h
  have hS : va_S A s.heap s.heap [] := va_S.rf
  refine il_entry (n := 5) (vs := [.ref h0, .int (nI b), .int nu, .int ns]) (Nat.le_of_ble_eq_true rfl) hargs (fun ls hl => ?_)
  have hl : lv_has ls 5 [(0, .ref h0), (1, .int (nI b)), (2, .int nu), (3, .int ns)] := hl
  generalize hQ : MQ below (va_Qv (fun _ : Unit => True) (il_B dC dI A (WX h0 q1 q2 q3 q4 q5 d to fr (upd us b nu) (upd se b ns) (il_change to fr us se lv b nu ns)) d) A) args s 0 0 A = Q
  have hP : va_P (dC, dI) vwCl (WX h0 q1 q2 q3 q4 q5 d to fr us se lv) s.heap := hP
  refine lv_aload_n hx hb dX0_change_0 rfl (lv_at hl 0 rfl) ?_
  refine va_get (D := (dC, dI)) (ci := 0) (v := .ref q3) (C := RX0) (T := TX0) (N := 5) hx hb hts in_X0 hown hK hP 0 rfl rfl 2 (by decide) (hts _ q32) (fun _ h9 => h9) rfl dX0_change_1 ?_
  refine lv_iload_n hx hb dX0_change_4 rfl (lv_at hl 1 rfl) ?_
  refine il_ld hx hb hK hP 3 0 rfl rfl hb12 (by decide) dX0_change_5 ?_
  refine lv_iload_n hx hb dX0_change_6 rfl (lv_at hl 2 rfl) ?_
  refine lv_iconst (v := (-1)) hx hb dX0_change_7 (by decide) ?_
  refine lv_ixor hx hb dX0_change_8 ?_
  refine lv_iand hx hb dX0_change_9 ?_
  refine lv_iload_n hx hb dX0_change_10 rfl (lv_at hl 3 rfl) ?_
  refine lv_aload_n hx hb dX0_change_11 rfl (lv_at hl 0 rfl) ?_
  refine va_get (D := (dC, dI)) (ci := 0) (v := .ref q4) (C := RX0) (T := TX0) (N := 5) hx hb hts in_X0 hown hK hP 0 rfl rfl 3 (by decide) (hts _ q33) (fun _ h9 => h9) rfl dX0_change_12 ?_
  refine lv_iload_n hx hb dX0_change_15 rfl (lv_at hl 1 rfl) ?_
  refine il_ld hx hb hK hP 4 0 rfl rfl hb12 (by decide) dX0_change_16 ?_
  refine lv_iconst (v := (-1)) hx hb dX0_change_17 (by decide) ?_
  refine lv_ixor hx hb dX0_change_18 ?_
  refine lv_iand hx hb dX0_change_19 ?_
  refine lv_ior hx hb dX0_change_20 ?_
  refine lv_istore (lv' := [(4, .int (((us b) &&& (il_n nu)) ||| (ns &&& (il_n (se b))))), (0, .ref h0), (1, .int (nI b)), (2, .int nu), (3, .int ns)]) hx hb dX0_change_21 hl (by decide) rfl (fun ls hl => ?_)
  refine lv_aload_n hx hb dX0_change_23 rfl (lv_at hl 1 rfl) ?_
  refine va_get (D := (dC, dI)) (ci := 0) (v := .ref q3) (C := RX0) (T := TX0) (N := 5) hx hb hts in_X0 hown hK hP 0 rfl rfl 2 (by decide) (hts _ q32) (fun _ h9 => h9) rfl dX0_change_24 ?_
  refine lv_iload_n hx hb dX0_change_27 rfl (lv_at hl 2 rfl) ?_
  refine lv_iload_n hx hb dX0_change_28 rfl (lv_at hl 3 rfl) ?_
  refine il_st hx hb hK hP hD hS 3 0 rfl rfl hb12 (by decide) dX0_change_29 (fun H locs hP hD hS => ?_)
  have hP : va_P (dC, dI) vwCl (WX h0 q1 q2 q3 q4 q5 d to fr (upd us b nu) se lv) H := hP
  have hD : va_D A (WX h0 q1 q2 q3 q4 q5 d to fr (upd us b nu) se lv) := hD
  refine lv_aload_n hx hb dX0_change_30 rfl (lv_at hl 1 rfl) ?_
  refine va_get (D := (dC, dI)) (ci := 0) (v := .ref q4) (C := RX0) (T := TX0) (N := 5) hx hb hts in_X0 hown hK hP 0 rfl rfl 3 (by decide) (hts _ q33) (fun _ h9 => h9) rfl dX0_change_31 ?_
  refine lv_iload_n hx hb dX0_change_34 rfl (lv_at hl 2 rfl) ?_
  refine lv_iload_n hx hb dX0_change_35 rfl (lv_at hl 4 rfl) ?_
  refine il_st hx hb hK hP hD hS 4 0 rfl rfl hb12 (by decide) dX0_change_36 (fun H locs hP hD hS => ?_)
  have hP : va_P (dC, dI) vwCl (WX h0 q1 q2 q3 q4 q5 d to fr (upd us b nu) (upd se b ns) lv) H := hP
  have hD : va_D A (WX h0 q1 q2 q3 q4 q5 d to fr (upd us b nu) (upd se b ns) lv) := hD
  refine lv_aload_n hx hb dX0_change_37 rfl (lv_at hl 1 rfl) ?_
  refine lv_iload_n hx hb dX0_change_38 rfl (lv_at hl 2 rfl) ?_
  refine lv_iload hx hb dX0_change_39 (lv_at hl 0 rfl) ?_
  refine il_callMv (As := [.int (nI b), .int (((us b) &&& (il_n nu)) ||| (ns &&& (il_n (se b))))]) (rest := []) (ws := WX h0 q1 q2 q3 q4 q5 d to fr (upd us b nu) (upd se b ns) lv) (wr := []) (ws1 := WX h0 q1 q2 q3 q4 q5 d to fr (upd us b nu) (upd se b ns) (il_shrink to fr (upd us b nu) (upd se b ns) lv b (((us b) &&& (il_n nu)) ||| (ns &&& (il_n (se b)))))) hF hK hP hD hS hA [0, 1, 2, 3, 4, 5] [] rfl rfl (by decide) (by decide) (by decide) hP 0 rfl rfl (metX0_shrink l dC dI h0 q1 q2 q3 q4 q5 d _ to fr (upd us b nu) (upd se b ns) lv b hb12 (((us b) &&& (il_n nu)) ||| (ns &&& (il_n (se b))))) (cwV 2 hts (lw_V q76 q78 qs6 q20 q79) rfl rfl rfl (by decide +kernel) ⟨Nat.le_of_ble_eq_true rfl, Nat.le_of_ble_eq_true rfl⟩) rfl hl.1 (Nat.le_of_ble_eq_true rfl) dX0_change_41 ⟨Nat.le_of_ble_eq_true rfl, Nat.le_of_ble_eq_true rfl⟩ rfl (fun H locs hP hD hS => ?_)
  have hP : va_P (dC, dI) vwCl (WX h0 q1 q2 q3 q4 q5 d to fr (upd us b nu) (upd se b ns) (il_shrink to fr (upd us b nu) (upd se b ns) lv b (((us b) &&& (il_n nu)) ||| (ns &&& (il_n (se b)))))) H := hP
  have hD : va_D A (WX h0 q1 q2 q3 q4 q5 d to fr (upd us b nu) (upd se b ns) (il_shrink to fr (upd us b nu) (upd se b ns) lv b (((us b) &&& (il_n nu)) ||| (ns &&& (il_n (se b)))))) := hD
  refine lv_aload_n hx hb dX0_change_44 rfl (lv_at hl 1 rfl) ?_
  refine lv_iload_n hx hb dX0_change_45 rfl (lv_at hl 2 rfl) ?_
  refine il_callMv (As := [.int (nI b)]) (rest := []) (ws := WX h0 q1 q2 q3 q4 q5 d to fr (upd us b nu) (upd se b ns) (il_shrink to fr (upd us b nu) (upd se b ns) lv b (((us b) &&& (il_n nu)) ||| (ns &&& (il_n (se b)))))) (wr := []) (ws1 := WX h0 q1 q2 q3 q4 q5 d to fr (upd us b nu) (upd se b ns) (il_spread to fr (upd us b nu) (upd se b ns) (il_shrink to fr (upd us b nu) (upd se b ns) lv b (((us b) &&& (il_n nu)) ||| (ns &&& (il_n (se b))))) b)) hF hK hP hD hS hA [0, 1, 2, 3, 4, 5] [] rfl rfl (by decide) (by decide) (by decide) hP 0 rfl rfl (metX0_spread l dC dI h0 q1 q2 q3 q4 q5 d _ to fr (upd us b nu) (upd se b ns) (il_shrink to fr (upd us b nu) (upd se b ns) lv b (((us b) &&& (il_n nu)) ||| (ns &&& (il_n (se b))))) b hb12) (cwV 1 hts (lw_V q59 q61 qs2 q20 q62) rfl rfl rfl (by decide +kernel) ⟨Nat.le_of_ble_eq_true rfl, Nat.le_of_ble_eq_true rfl⟩) rfl hl.1 (Nat.le_of_ble_eq_true rfl) dX0_change_46 ⟨Nat.le_of_ble_eq_true rfl, Nat.le_of_ble_eq_true rfl⟩ rfl (fun H locs hP hD hS => ?_)
  have hP : va_P (dC, dI) vwCl (WX h0 q1 q2 q3 q4 q5 d to fr (upd us b nu) (upd se b ns) (il_spread to fr (upd us b nu) (upd se b ns) (il_shrink to fr (upd us b nu) (upd se b ns) lv b (((us b) &&& (il_n nu)) ||| (ns &&& (il_n (se b))))) b)) H := hP
  have hD : va_D A (WX h0 q1 q2 q3 q4 q5 d to fr (upd us b nu) (upd se b ns) (il_spread to fr (upd us b nu) (upd se b ns) (il_shrink to fr (upd us b nu) (upd se b ns) lv b (((us b) &&& (il_n nu)) ||| (ns &&& (il_n (se b))))) b)) := hD
  exact il_retv hx hb hr hlocks dX0_change_49 hQ hK hP hD hS (rfl)
end
section
abbrev wsX0_arc : List Cond := ws_ yX0_arc cX0_arc 5 (some .int)
abbrev rmX0_arc : Room := il_rm 4 94
set_option maxHeartbeats 4000000 in
set_option maxRecDepth 100000 in
/-- arc(a, b, on) -/
theorem metX0_arc (l : Launch) (dC : Nat → ClassId) (dI : Nat → Nat → Nat) (h0 q1 q2 q3 q4 q5 : Nat) (d : ClassId) (sz : Nat) (to fr us se lv : il_F) (p0 p1 p2 : Int32) : Met l yX0_arc wsX0_arc rmX0_arc (il_PM dC dI (WX h0 q1 q2 q3 q4 q5 d to fr us se lv) d sz [.ref h0, .int p0, .int p1, .int p2]) (va_Qi (fun (r : Int32) (_ : Unit) => r = il_arcR to p0 p1) (il_B dC dI (va_A (WX h0 q1 q2 q3 q4 q5 d to fr us se lv) sz) (WX h0 q1 q2 q3 q4 q5 d ((il_arc us se p0 p1 p2 (to, fr, lv)).1) ((il_arc us se p0 p1 p2 (to, fr, lv)).2.1) us se ((il_arc us se p0 p1 p2 (to, fr, lv)).2.2)) d) (va_A (WX h0 q1 q2 q3 q4 q5 d to fr us se lv) sz)) 0 0 (va_A (WX h0 q1 q2 q3 q4 q5 d to fr us se lv) sz) := by
  refine Met.ofW (cc := cX0_arc) (maxL := 5) (ret := (some .int)) (by decide) rfl ?_
  intro p e s m args below meth c s₁ B hml hv
  obtain ⟨hargs, hsz, hP, hK, hD0⟩ := hv
  have hx := B.exec
  have hb := B.bytes
  have hr := B.returns
  have hlocks := B.notSynchronized
  have hts : ∀ w ∈ lw_all, w.before args s = true := fun w h => atoms_spec (ws := wsX0_arc) B.pre w (List.mem_cons_of_mem _ h)
  have hown : s.vm.findClass RX0 = some m.cls := findClass_of_methodNamed B.named
  have hF : CallFix p m c cX0_arc 5 s args lw_all RX0 := ⟨hx, hb, hml, hown, hts⟩
  subst hsz
  have hD := hD0.self (sz := s.heap.size)
  generalize hAe : va_A (WX h0 q1 q2 q3 q4 q5 d to fr us se lv) s.heap.size = A at hD ⊢
  have hA : ∀ q : Nat, s.heap.size ≤ q → A q := fun q h => by rw [← hAe]; exact Or.inr h
  have hS : va_S A s.heap s.heap [] := va_S.rf
  refine il_entry (n := 5) (vs := [.ref h0, .int p0, .int p1, .int p2]) (Nat.le_of_ble_eq_true rfl) hargs (fun ls hl => ?_)
  have hl : lv_has ls 5 [(0, .ref h0), (1, .int p0), (2, .int p1), (3, .int p2)] := hl
  generalize hQ : MQ below (va_Qi (fun (r : Int32) (_ : Unit) => r = il_arcR to p0 p1) (il_B dC dI A (WX h0 q1 q2 q3 q4 q5 d ((il_arc us se p0 p1 p2 (to, fr, lv)).1) ((il_arc us se p0 p1 p2 (to, fr, lv)).2.1) us se ((il_arc us se p0 p1 p2 (to, fr, lv)).2.2)) d) A) args s 0 0 A = Q
  have hP : va_P (dC, dI) vwCl (WX h0 q1 q2 q3 q4 q5 d to fr us se lv) s.heap := hP
  refine lv_aload_n hx hb dX0_arc_0 rfl (lv_at hl 0 rfl) ?_
  refine lv_iload_n hx hb dX0_arc_1 rfl (lv_at hl 1 rfl) ?_
  refine il_callR (As := [.int p0]) (rest := []) (v := il_bad p0) hF hK hP 0 rfl rfl (metX0_bad l dC dI h0 q1 q2 q3 q4 q5 d to fr us se lv p0) (cwV 1 hts (lw_V q51 q53 qs0 q20 q54) rfl rfl rfl (by decide +kernel) ⟨Nat.le_of_ble_eq_true rfl, Nat.le_of_ble_eq_true rfl⟩) rfl hl.1 (Nat.le_of_ble_eq_true rfl) dX0_arc_2 ⟨Nat.le_of_ble_eq_true rfl, Nat.le_of_ble_eq_true rfl⟩ rfl ?_
  refine lv_if_ne (tgt := 16) hx hb dX0_arc_5 (by decide) (fun c5 => ?_) (fun c5 => ?_)
  · have c5 : ¬ il_bad p0 = 0 := c5
    refine lv_iconst (v := (-1)) hx hb dX0_arc_16 (by decide) ?_
    exact il_retiM hx hb hr hlocks dX0_arc_17 hQ hK hP hD hS (by rw [il_arc, if_neg c5]) (by rw [il_arcR, if_neg c5])
  · have c5 : il_bad p0 = 0 := c5
    obtain ⟨a, ha, rfl⟩ := il_bad_in c5
    refine lv_aload_n hx hb dX0_arc_8 rfl (lv_at hl 0 rfl) ?_
    refine lv_iload_n hx hb dX0_arc_9 rfl (lv_at hl 2 rfl) ?_
    refine il_callR (As := [.int p1]) (rest := []) (v := il_bad p1) hF hK hP 0 rfl rfl (metX0_bad l dC dI h0 q1 q2 q3 q4 q5 d to fr us se lv p1) (cwV 1 hts (lw_V q51 q53 qs0 q20 q54) rfl rfl rfl (by decide +kernel) ⟨Nat.le_of_ble_eq_true rfl, Nat.le_of_ble_eq_true rfl⟩) rfl hl.1 (Nat.le_of_ble_eq_true rfl) dX0_arc_10 ⟨Nat.le_of_ble_eq_true rfl, Nat.le_of_ble_eq_true rfl⟩ rfl ?_
    refine lv_if_eq (tgt := 18) hx hb dX0_arc_13 (by decide) (fun c13 => ?_) (fun c13 => ?_)
    · have c13 : il_bad p1 = 0 := c13
      obtain ⟨b, hb12, rfl⟩ := il_bad_in c13
      refine lv_aload_n hx hb dX0_arc_18 rfl (lv_at hl 0 rfl) ?_
      refine va_get (D := (dC, dI)) (ci := 0) (v := .ref q1) (C := RX0) (T := TX0) (N := 5) hx hb hts in_X0 hown hK hP 0 rfl rfl 0 (by decide) (hts _ q30) (fun _ h9 => h9) rfl dX0_arc_19 ?_
      refine lv_iload_n hx hb dX0_arc_22 rfl (lv_at hl 1 rfl) ?_
      refine il_ld hx hb hK hP 1 0 rfl rfl ha (by decide) dX0_arc_23 ?_
      refine lv_iload_n hx hb dX0_arc_24 rfl (lv_at hl 2 rfl) ?_
      refine lv_ishr hx hb dX0_arc_25 ?_
      refine lv_iconst (v := 1) hx hb dX0_arc_26 (by decide) ?_
      refine lv_iand hx hb dX0_arc_27 ?_
      refine lv_istore (lv' := [(4, .int (il_b (to a) b)), (0, .ref h0), (1, .int (nI a)), (2, .int (nI b)), (3, .int p2)]) hx hb dX0_arc_28 hl (by decide) rfl (fun ls hl => ?_)
      refine lv_iload_n hx hb dX0_arc_30 rfl (lv_at hl 4 rfl) ?_
      refine lv_if_eq (tgt := 43) hx hb dX0_arc_31 (by decide) (fun c31 => ?_) (fun c31 => ?_)
      · have c31 : p2 = 0 := c31
        refine lv_aload_n hx hb dX0_arc_43 rfl (lv_at hl 1 rfl) ?_
        refine lv_iload_n hx hb dX0_arc_44 rfl (lv_at hl 2 rfl) ?_
        refine lv_iload_n hx hb dX0_arc_45 rfl (lv_at hl 3 rfl) ?_
        refine il_callMv (As := [.int (nI a), .int (nI b)]) (rest := []) (ws := WX h0 q1 q2 q3 q4 q5 d to fr us se lv) (wr := []) (ws1 := WX h0 q1 q2 q3 q4 q5 d ((il_part us se a b (to, fr, lv)).1) ((il_part us se a b (to, fr, lv)).2.1) us se ((il_part us se a b (to, fr, lv)).2.2)) hF hK hP hD hS hA [0, 1, 2, 3, 4, 5] [] rfl rfl (by decide) (by decide) (by decide) hP 0 rfl rfl (metX0_part l dC dI h0 q1 q2 q3 q4 q5 d _ to fr us se lv a ha b hb12) (cwV 2 hts (lw_V q71 q73 qs5 q20 q74) rfl rfl rfl (by decide +kernel) ⟨Nat.le_of_ble_eq_true rfl, Nat.le_of_ble_eq_true rfl⟩) rfl hl.1 (Nat.le_of_ble_eq_true rfl) dX0_arc_46 ⟨Nat.le_of_ble_eq_true rfl, Nat.le_of_ble_eq_true rfl⟩ rfl (fun H locs hP hD hS => ?_)
        have hP : va_P (dC, dI) vwCl (WX h0 q1 q2 q3 q4 q5 d ((il_part us se a b (to, fr, lv)).1) ((il_part us se a b (to, fr, lv)).2.1) us se ((il_part us se a b (to, fr, lv)).2.2)) H := hP
        have hD : va_D A (WX h0 q1 q2 q3 q4 q5 d ((il_part us se a b (to, fr, lv)).1) ((il_part us se a b (to, fr, lv)).2.1) us se ((il_part us se a b (to, fr, lv)).2.2)) := hD
        generalize hT46 : il_part us se a b (to, fr, lv) = T46 at hP hD
        obtain ⟨to46, fr46, lv46⟩ := T46
        have hP : va_P (dC, dI) vwCl (WX h0 q1 q2 q3 q4 q5 d to46 fr46 us se lv46) H := hP
        have hD : va_D A (WX h0 q1 q2 q3 q4 q5 d to46 fr46 us se lv46) := hD
        refine lv_iload hx hb dX0_arc_49 (lv_at hl 0 rfl) ?_
        exact il_retiM hx hb hr hlocks dX0_arc_51 hQ hK hP hD hS (by rw [il_arc, if_pos c5, if_pos c13, il_nat_nI (i := a) (by omega), il_nat_nI (i := b) (by omega), il_arcS, if_pos c31, hT46]) (by rw [il_arcR, if_pos c5, if_pos c13, il_nat_nI (i := a) (by omega), il_nat_nI (i := b) (by omega)])
      · have c31 : ¬ p2 = 0 := c31
        refine lv_aload_n hx hb dX0_arc_34 rfl (lv_at hl 1 rfl) ?_
        refine lv_iload_n hx hb dX0_arc_35 rfl (lv_at hl 2 rfl) ?_
        refine lv_iload_n hx hb dX0_arc_36 rfl (lv_at hl 3 rfl) ?_
        refine il_callMv (As := [.int (nI a), .int (nI b)]) (rest := []) (ws := WX h0 q1 q2 q3 q4 q5 d to fr us se lv) (wr := []) (ws1 := WX h0 q1 q2 q3 q4 q5 d ((il_join us se a b (to, fr, lv)).1) ((il_join us se a b (to, fr, lv)).2.1) us se ((il_join us se a b (to, fr, lv)).2.2)) hF hK hP hD hS hA [0, 1, 2, 3, 4, 5] [] rfl rfl (by decide) (by decide) (by decide) hP 0 rfl rfl (metX0_join l dC dI h0 q1 q2 q3 q4 q5 d _ to fr us se lv a ha b hb12) (cwV 2 hts (lw_V q55 q57 qs1 q20 q58) rfl rfl rfl (by decide +kernel) ⟨Nat.le_of_ble_eq_true rfl, Nat.le_of_ble_eq_true rfl⟩) rfl hl.1 (Nat.le_of_ble_eq_true rfl) dX0_arc_37 ⟨Nat.le_of_ble_eq_true rfl, Nat.le_of_ble_eq_true rfl⟩ rfl (fun H locs hP hD hS => ?_)
        have hP : va_P (dC, dI) vwCl (WX h0 q1 q2 q3 q4 q5 d ((il_join us se a b (to, fr, lv)).1) ((il_join us se a b (to, fr, lv)).2.1) us se ((il_join us se a b (to, fr, lv)).2.2)) H := hP
        have hD : va_D A (WX h0 q1 q2 q3 q4 q5 d ((il_join us se a b (to, fr, lv)).1) ((il_join us se a b (to, fr, lv)).2.1) us se ((il_join us se a b (to, fr, lv)).2.2)) := hD
        generalize hT37 : il_join us se a b (to, fr, lv) = T37 at hP hD
        obtain ⟨to37, fr37, lv37⟩ := T37
        have hP : va_P (dC, dI) vwCl (WX h0 q1 q2 q3 q4 q5 d to37 fr37 us se lv37) H := hP
        have hD : va_D A (WX h0 q1 q2 q3 q4 q5 d to37 fr37 us se lv37) := hD
        refine lv_goto (tgt := 49) hx hb dX0_arc_40 (by decide) ?_
        refine lv_iload hx hb dX0_arc_49 (lv_at hl 0 rfl) ?_
        exact il_retiM hx hb hr hlocks dX0_arc_51 hQ hK hP hD hS (by rw [il_arc, if_pos c5, if_pos c13, il_nat_nI (i := a) (by omega), il_nat_nI (i := b) (by omega), il_arcS, if_neg c31, hT37]) (by rw [il_arcR, if_pos c5, if_pos c13, il_nat_nI (i := a) (by omega), il_nat_nI (i := b) (by omega)])
    · have c13 : ¬ il_bad p1 = 0 := c13
      refine lv_iconst (v := (-1)) hx hb dX0_arc_16 (by decide) ?_
      exact il_retiM hx hb hr hlocks dX0_arc_17 hQ hK hP hD hS (by rw [il_arc, if_pos c5, if_neg c13]) (by rw [il_arcR, if_pos c5, if_neg c13])
abbrev wsX0_hasArc : List Cond := ws_ yX0_hasArc cX0_hasArc 3 (some .boolean)
abbrev rmX0_hasArc : Room := il_rm 1 21
set_option maxHeartbeats 4000000 in
set_option maxRecDepth 100000 in
/-- hasArc(a, b) -/
theorem metX0_hasArc (l : Launch) (dC : Nat → ClassId) (dI : Nat → Nat → Nat) (h0 q1 q2 q3 q4 q5 : Nat) (d : ClassId) (to fr us se lv : il_F) (p0 p1 : Int32) : Met l yX0_hasArc wsX0_hasArc rmX0_hasArc (il_PR dC dI (WX h0 q1 q2 q3 q4 q5 d to fr us se lv) d [.ref h0, .int p0, .int p1]) (vp_Si (fun r => r = il_hasArc to p0 p1)) 0 0 (fun _ => False) := by
  refine Met.ofW (cc := cX0_hasArc) (maxL := 3) (ret := (some .boolean)) (by decide) rfl ?_
  intro p e s m args below meth c s₁ B hml hv
  obtain ⟨hargs, hP, hK⟩ := hv
  have hx := B.exec
  have hb := B.bytes
  have hr := B.returns
  have hlocks := B.notSynchronized
  have hts : ∀ w ∈ lw_all, w.before args s = true := fun w h => atoms_spec (ws := wsX0_hasArc) B.pre w (List.mem_cons_of_mem _ h)
  have hown : s.vm.findClass RX0 = some m.cls := findClass_of_methodNamed B.named
  have hF : CallFix p m c cX0_hasArc 3 s args lw_all RX0 := ⟨hx, hb, hml, hown, hts⟩
  refine il_entry (n := 3) (vs := [.ref h0, .int p0, .int p1]) (Nat.le_of_ble_eq_true rfl) hargs (fun ls hl => ?_)
  have hl : lv_has ls 3 [(0, .ref h0), (1, .int p0), (2, .int p1)] := hl
  generalize hQ : MQ below (vp_Si (fun r => r = il_hasArc to p0 p1)) args s 0 0 (fun _ => False) = Q
  refine lv_aload_n hx hb dX0_hasArc_0 rfl (lv_at hl 0 rfl) ?_
  refine lv_iload_n hx hb dX0_hasArc_1 rfl (lv_at hl 1 rfl) ?_
  refine il_callR (As := [.int p0]) (rest := []) (v := il_bad p0) hF hK hP 0 rfl rfl (metX0_bad l dC dI h0 q1 q2 q3 q4 q5 d to fr us se lv p0) (cwV 1 hts (lw_V q51 q53 qs0 q20 q54) rfl rfl rfl (by decide +kernel) ⟨Nat.le_of_ble_eq_true rfl, Nat.le_of_ble_eq_true rfl⟩) rfl hl.1 (Nat.le_of_ble_eq_true rfl) dX0_hasArc_2 ⟨Nat.le_of_ble_eq_true rfl, Nat.le_of_ble_eq_true rfl⟩ rfl ?_
  refine lv_if_ne (tgt := 34) hx hb dX0_hasArc_5 (by decide) (fun c5 => ?_) (fun c5 => ?_)
  · have c5 : ¬ il_bad p0 = 0 := c5
    refine lv_iconst (v := 0) hx hb dX0_hasArc_34 (by decide) ?_
    exact il_retz hx hb hr hlocks dX0_hasArc_35 hQ rfl (by rw [il_hasArc, if_neg c5])
  · have c5 : il_bad p0 = 0 := c5
    obtain ⟨a, ha, rfl⟩ := il_bad_in c5
    refine lv_aload_n hx hb dX0_hasArc_8 rfl (lv_at hl 0 rfl) ?_
    refine lv_iload_n hx hb dX0_hasArc_9 rfl (lv_at hl 2 rfl) ?_
    refine il_callR (As := [.int p1]) (rest := []) (v := il_bad p1) hF hK hP 0 rfl rfl (metX0_bad l dC dI h0 q1 q2 q3 q4 q5 d to fr us se lv p1) (cwV 1 hts (lw_V q51 q53 qs0 q20 q54) rfl rfl rfl (by decide +kernel) ⟨Nat.le_of_ble_eq_true rfl, Nat.le_of_ble_eq_true rfl⟩) rfl hl.1 (Nat.le_of_ble_eq_true rfl) dX0_hasArc_10 ⟨Nat.le_of_ble_eq_true rfl, Nat.le_of_ble_eq_true rfl⟩ rfl ?_
    refine lv_if_ne (tgt := 34) hx hb dX0_hasArc_13 (by decide) (fun c13 => ?_) (fun c13 => ?_)
    · have c13 : ¬ il_bad p1 = 0 := c13
      refine lv_iconst (v := 0) hx hb dX0_hasArc_34 (by decide) ?_
      exact il_retz hx hb hr hlocks dX0_hasArc_35 hQ rfl (by rw [il_hasArc, if_pos c5, if_neg c13])
    · have c13 : il_bad p1 = 0 := c13
      obtain ⟨b, hb12, rfl⟩ := il_bad_in c13
      refine lv_aload_n hx hb dX0_hasArc_16 rfl (lv_at hl 0 rfl) ?_
      refine va_get (D := (dC, dI)) (ci := 0) (v := .ref q1) (C := RX0) (T := TX0) (N := 5) hx hb hts in_X0 hown hK hP 0 rfl rfl 0 (by decide) (hts _ q30) (fun _ h9 => h9) rfl dX0_hasArc_17 ?_
      refine lv_iload_n hx hb dX0_hasArc_20 rfl (lv_at hl 1 rfl) ?_
      refine il_ld hx hb hK hP 1 0 rfl rfl ha (by decide) dX0_hasArc_21 ?_
      refine lv_iload_n hx hb dX0_hasArc_22 rfl (lv_at hl 2 rfl) ?_
      refine lv_ishr hx hb dX0_hasArc_23 ?_
      refine lv_iconst (v := 1) hx hb dX0_hasArc_24 (by decide) ?_
      refine lv_iand hx hb dX0_hasArc_25 ?_
      refine lv_iconst (v := 1) hx hb dX0_hasArc_26 (by decide) ?_
      refine lv_icmp_ne (tgt := 34) hx hb dX0_hasArc_27 (by decide) (fun c27 => ?_) (fun c27 => ?_)
      · have c27 : ¬ il_b (to a) b = 1 := c27
        refine lv_iconst (v := 0) hx hb dX0_hasArc_34 (by decide) ?_
        exact il_retz hx hb hr hlocks dX0_hasArc_35 hQ rfl (by rw [il_hasArc, if_pos c5, if_pos c13, il_nat_nI (i := a) (by omega), il_nat_nI (i := b) (by omega), if_neg c27])
      · have c27 : il_b (to a) b = 1 := c27
        refine lv_iconst (v := 1) hx hb dX0_hasArc_30 (by decide) ?_
        refine lv_goto (tgt := 35) hx hb dX0_hasArc_31 (by decide) ?_
        exact il_retz hx hb hr hlocks dX0_hasArc_35 hQ rfl (by rw [il_hasArc, if_pos c5, if_pos c13, il_nat_nI (i := a) (by omega), il_nat_nI (i := b) (by omega), if_pos c27])
abbrev wsX0_use : List Cond := ws_ yX0_use cX0_use 6 (some .int)
abbrev rmX0_use : Room := il_rm 4 96
set_option maxHeartbeats 4000000 in
set_option maxRecDepth 100000 in
/-- use(b, v, on) -/
theorem metX0_use (l : Launch) (dC : Nat → ClassId) (dI : Nat → Nat → Nat) (h0 q1 q2 q3 q4 q5 : Nat) (d : ClassId) (sz : Nat) (to fr us se lv : il_F) (p0 p1 p2 : Int32) : Met l yX0_use wsX0_use rmX0_use (il_PM dC dI (WX h0 q1 q2 q3 q4 q5 d to fr us se lv) d sz [.ref h0, .int p0, .int p1, .int p2]) (va_Qi (fun (r : Int32) (_ : Unit) => r = il_digR us p0 p1) (il_B dC dI (va_A (WX h0 q1 q2 q3 q4 q5 d to fr us se lv) sz) (WX h0 q1 q2 q3 q4 q5 d to fr ((il_use to fr p0 p1 p2 (us, se, lv)).1) ((il_use to fr p0 p1 p2 (us, se, lv)).2.1) ((il_use to fr p0 p1 p2 (us, se, lv)).2.2)) d) (va_A (WX h0 q1 q2 q3 q4 q5 d to fr us se lv) sz)) 0 0 (va_A (WX h0 q1 q2 q3 q4 q5 d to fr us se lv) sz) := by
  refine Met.ofW (cc := cX0_use) (maxL := 6) (ret := (some .int)) (by decide) rfl ?_
  intro p e s m args below meth c s₁ B hml hv
  obtain ⟨hargs, hsz, hP, hK, hD0⟩ := hv
  have hx := B.exec
  have hb := B.bytes
  have hr := B.returns
  have hlocks := B.notSynchronized
  have hts : ∀ w ∈ lw_all, w.before args s = true := fun w h => atoms_spec (ws := wsX0_use) B.pre w (List.mem_cons_of_mem _ h)
  have hown : s.vm.findClass RX0 = some m.cls := findClass_of_methodNamed B.named
  have hF : CallFix p m c cX0_use 6 s args lw_all RX0 := ⟨hx, hb, hml, hown, hts⟩
  subst hsz
  have hD := hD0.self (sz := s.heap.size)
  generalize hAe : va_A (WX h0 q1 q2 q3 q4 q5 d to fr us se lv) s.heap.size = A at hD ⊢
  have hA : ∀ q : Nat, s.heap.size ≤ q → A q := fun q h => by rw [← hAe]; exact Or.inr h
  have hS : va_S A s.heap s.heap [] := va_S.rf
  refine il_entry (n := 6) (vs := [.ref h0, .int p0, .int p1, .int p2]) (Nat.le_of_ble_eq_true rfl) hargs (fun ls hl => ?_)
  have hl : lv_has ls 6 [(0, .ref h0), (1, .int p0), (2, .int p1), (3, .int p2)] := hl
  generalize hQ : MQ below (va_Qi (fun (r : Int32) (_ : Unit) => r = il_digR us p0 p1) (il_B dC dI A (WX h0 q1 q2 q3 q4 q5 d to fr ((il_use to fr p0 p1 p2 (us, se, lv)).1) ((il_use to fr p0 p1 p2 (us, se, lv)).2.1) ((il_use to fr p0 p1 p2 (us, se, lv)).2.2)) d) A) args s 0 0 A = Q
  have hP : va_P (dC, dI) vwCl (WX h0 q1 q2 q3 q4 q5 d to fr us se lv) s.heap := hP
  refine lv_aload_n hx hb dX0_use_0 rfl (lv_at hl 0 rfl) ?_
  refine lv_iload_n hx hb dX0_use_1 rfl (lv_at hl 1 rfl) ?_
  refine il_callR (As := [.int p0]) (rest := []) (v := il_bad p0) hF hK hP 0 rfl rfl (metX0_bad l dC dI h0 q1 q2 q3 q4 q5 d to fr us se lv p0) (cwV 1 hts (lw_V q51 q53 qs0 q20 q54) rfl rfl rfl (by decide +kernel) ⟨Nat.le_of_ble_eq_true rfl, Nat.le_of_ble_eq_true rfl⟩) rfl hl.1 (Nat.le_of_ble_eq_true rfl) dX0_use_2 ⟨Nat.le_of_ble_eq_true rfl, Nat.le_of_ble_eq_true rfl⟩ rfl ?_
  refine lv_if_ne (tgt := 16) hx hb dX0_use_5 (by decide) (fun c5 => ?_) (fun c5 => ?_)
  · have c5 : ¬ il_bad p0 = 0 := c5
    refine lv_iconst (v := (-1)) hx hb dX0_use_16 (by decide) ?_
    exact il_retiM hx hb hr hlocks dX0_use_17 hQ hK hP hD hS (by rw [il_use, if_neg c5]) (by rw [il_digR, if_neg c5])
  · have c5 : il_bad p0 = 0 := c5
    obtain ⟨b, hb12, rfl⟩ := il_bad_in c5
    refine lv_aload_n hx hb dX0_use_8 rfl (lv_at hl 0 rfl) ?_
    refine lv_iload_n hx hb dX0_use_9 rfl (lv_at hl 2 rfl) ?_
    refine il_callR (As := [.int p1]) (rest := []) (v := il_badV p1) hF hK hP 0 rfl rfl (metX0_badVariable l dC dI h0 q1 q2 q3 q4 q5 d to fr us se lv p1) (cwV 1 hts (lw_V q92 q94 qs8 q20 q95) rfl rfl rfl (by decide +kernel) ⟨Nat.le_of_ble_eq_true rfl, Nat.le_of_ble_eq_true rfl⟩) rfl hl.1 (Nat.le_of_ble_eq_true rfl) dX0_use_10 ⟨Nat.le_of_ble_eq_true rfl, Nat.le_of_ble_eq_true rfl⟩ rfl ?_
    refine lv_if_eq (tgt := 18) hx hb dX0_use_13 (by decide) (fun c13 => ?_) (fun c13 => ?_)
    · have c13 : il_badV p1 = 0 := c13
      obtain ⟨v, hv20, rfl⟩ := il_badV_in c13
      refine lv_aload_n hx hb dX0_use_18 rfl (lv_at hl 0 rfl) ?_
      refine va_get (D := (dC, dI)) (ci := 0) (v := .ref q3) (C := RX0) (T := TX0) (N := 5) hx hb hts in_X0 hown hK hP 0 rfl rfl 2 (by decide) (hts _ q32) (fun _ h9 => h9) rfl dX0_use_19 ?_
      refine lv_iload_n hx hb dX0_use_22 rfl (lv_at hl 1 rfl) ?_
      refine il_ld hx hb hK hP 3 0 rfl rfl hb12 (by decide) dX0_use_23 ?_
      refine lv_iload_n hx hb dX0_use_24 rfl (lv_at hl 2 rfl) ?_
      refine lv_ishr hx hb dX0_use_25 ?_
      refine lv_iconst (v := 1) hx hb dX0_use_26 (by decide) ?_
      refine lv_iand hx hb dX0_use_27 ?_
      refine lv_istore (lv' := [(4, .int (il_b (us b) v)), (0, .ref h0), (1, .int (nI b)), (2, .int (nI v)), (3, .int p2)]) hx hb dX0_use_28 hl (by decide) rfl (fun ls hl => ?_)
      refine lv_aload_n hx hb dX0_use_30 rfl (lv_at hl 1 rfl) ?_
      refine va_get (D := (dC, dI)) (ci := 0) (v := .ref q3) (C := RX0) (T := TX0) (N := 5) hx hb hts in_X0 hown hK hP 0 rfl rfl 2 (by decide) (hts _ q32) (fun _ h9 => h9) rfl dX0_use_31 ?_
      refine lv_iload_n hx hb dX0_use_34 rfl (lv_at hl 2 rfl) ?_
      refine il_ld hx hb hK hP 3 0 rfl rfl hb12 (by decide) dX0_use_35 ?_
      refine lv_iconst (v := 1) hx hb dX0_use_36 (by decide) ?_
      refine lv_iload_n hx hb dX0_use_37 rfl (lv_at hl 3 rfl) ?_
      refine lv_ishl hx hb dX0_use_38 ?_
      refine lv_iconst (v := (-1)) hx hb dX0_use_39 (by decide) ?_
      refine lv_ixor hx hb dX0_use_40 ?_
      refine lv_iand hx hb dX0_use_41 ?_
      refine lv_istore (lv' := [(5, .int ((us b) &&& (il_n (il_o v)))), (4, .int (il_b (us b) v)), (0, .ref h0), (1, .int (nI b)), (2, .int (nI v)), (3, .int p2)]) hx hb dX0_use_42 hl (by decide) rfl (fun ls hl => ?_)
      refine lv_aload_n hx hb dX0_use_44 rfl (lv_at hl 2 rfl) ?_
      refine lv_iload_n hx hb dX0_use_45 rfl (lv_at hl 3 rfl) ?_
      refine lv_iload_n hx hb dX0_use_46 rfl (lv_at hl 5 rfl) ?_
      refine lv_if_eq (tgt := 59) hx hb dX0_use_47 (by decide) (fun c47 => ?_) (fun c47 => ?_)
      · have c47 : p2 = 0 := c47
        refine lv_iload hx hb dX0_use_59 (lv_at hl 0 rfl) ?_
        refine lv_aload_n hx hb dX0_use_61 rfl (lv_at hl 2 rfl) ?_
        refine va_get (D := (dC, dI)) (ci := 0) (v := .ref q4) (C := RX0) (T := TX0) (N := 5) hx hb hts in_X0 hown hK hP 0 rfl rfl 3 (by decide) (hts _ q33) (fun _ h9 => h9) rfl dX0_use_62 ?_
        refine lv_iload_n hx hb dX0_use_65 rfl (lv_at hl 3 rfl) ?_
        refine il_ld hx hb hK hP 4 0 rfl rfl hb12 (by decide) dX0_use_66 ?_
        refine il_callMv (As := [.int (nI b), .int ((us b) &&& (il_n (il_o v))), .int (se b)]) (rest := []) (ws := WX h0 q1 q2 q3 q4 q5 d to fr us se lv) (wr := []) (ws1 := WX h0 q1 q2 q3 q4 q5 d to fr (upd us b ((us b) &&& (il_n (il_o v)))) (upd se b (se b)) (il_change to fr us se lv b ((us b) &&& (il_n (il_o v))) (se b))) hF hK hP hD hS hA [0, 1, 2, 3, 4, 5] [] rfl rfl (by decide) (by decide) (by decide) hP 0 rfl rfl (metX0_change l dC dI h0 q1 q2 q3 q4 q5 d _ to fr us se lv b hb12 ((us b) &&& (il_n (il_o v))) (se b)) (cwV 3 hts (lw_V q96 q98 qs9 q20 q99) rfl rfl rfl (by decide +kernel) ⟨Nat.le_of_ble_eq_true rfl, Nat.le_of_ble_eq_true rfl⟩) rfl hl.1 (Nat.le_of_ble_eq_true rfl) dX0_use_67 ⟨Nat.le_of_ble_eq_true rfl, Nat.le_of_ble_eq_true rfl⟩ rfl (fun H locs hP hD hS => ?_)
        have hP : va_P (dC, dI) vwCl (WX h0 q1 q2 q3 q4 q5 d to fr (upd us b ((us b) &&& (il_n (il_o v)))) (upd se b (se b)) (il_change to fr us se lv b ((us b) &&& (il_n (il_o v))) (se b))) H := hP
        have hD : va_D A (WX h0 q1 q2 q3 q4 q5 d to fr (upd us b ((us b) &&& (il_n (il_o v)))) (upd se b (se b)) (il_change to fr us se lv b ((us b) &&& (il_n (il_o v))) (se b))) := hD
        refine lv_iload hx hb dX0_use_70 (lv_at hl 1 rfl) ?_
        exact il_retiM hx hb hr hlocks dX0_use_72 hQ hK hP hD hS (by rw [il_use, if_pos c5, if_pos c13, il_nat_nI (i := b) (by omega), il_nat_nI (i := v) (by omega), il_useS, il_put, if_pos c47]) (by rw [il_digR, if_pos c5, if_pos c13, il_nat_nI (i := b) (by omega), il_nat_nI (i := v) (by omega)])
      · have c47 : ¬ p2 = 0 := c47
        refine lv_iload hx hb dX0_use_50 (lv_at hl 0 rfl) ?_
        refine lv_iconst (v := 1) hx hb dX0_use_52 (by decide) ?_
        refine lv_iload_n hx hb dX0_use_53 rfl (lv_at hl 4 rfl) ?_
        refine lv_ishl hx hb dX0_use_54 ?_
        refine lv_ior hx hb dX0_use_55 ?_
        refine lv_goto (tgt := 61) hx hb dX0_use_56 (by decide) ?_
        refine lv_aload_n hx hb dX0_use_61 rfl (lv_at hl 2 rfl) ?_
        refine va_get (D := (dC, dI)) (ci := 0) (v := .ref q4) (C := RX0) (T := TX0) (N := 5) hx hb hts in_X0 hown hK hP 0 rfl rfl 3 (by decide) (hts _ q33) (fun _ h9 => h9) rfl dX0_use_62 ?_
        refine lv_iload_n hx hb dX0_use_65 rfl (lv_at hl 3 rfl) ?_
        refine il_ld hx hb hK hP 4 0 rfl rfl hb12 (by decide) dX0_use_66 ?_
        refine il_callMv (As := [.int (nI b), .int (((us b) &&& (il_n (il_o v))) ||| (il_o v)), .int (se b)]) (rest := []) (ws := WX h0 q1 q2 q3 q4 q5 d to fr us se lv) (wr := []) (ws1 := WX h0 q1 q2 q3 q4 q5 d to fr (upd us b (((us b) &&& (il_n (il_o v))) ||| (il_o v))) (upd se b (se b)) (il_change to fr us se lv b (((us b) &&& (il_n (il_o v))) ||| (il_o v)) (se b))) hF hK hP hD hS hA [0, 1, 2, 3, 4, 5] [] rfl rfl (by decide) (by decide) (by decide) hP 0 rfl rfl (metX0_change l dC dI h0 q1 q2 q3 q4 q5 d _ to fr us se lv b hb12 (((us b) &&& (il_n (il_o v))) ||| (il_o v)) (se b)) (cwV 3 hts (lw_V q96 q98 qs9 q20 q99) rfl rfl rfl (by decide +kernel) ⟨Nat.le_of_ble_eq_true rfl, Nat.le_of_ble_eq_true rfl⟩) rfl hl.1 (Nat.le_of_ble_eq_true rfl) dX0_use_67 ⟨Nat.le_of_ble_eq_true rfl, Nat.le_of_ble_eq_true rfl⟩ rfl (fun H locs hP hD hS => ?_)
        have hP : va_P (dC, dI) vwCl (WX h0 q1 q2 q3 q4 q5 d to fr (upd us b (((us b) &&& (il_n (il_o v))) ||| (il_o v))) (upd se b (se b)) (il_change to fr us se lv b (((us b) &&& (il_n (il_o v))) ||| (il_o v)) (se b))) H := hP
        have hD : va_D A (WX h0 q1 q2 q3 q4 q5 d to fr (upd us b (((us b) &&& (il_n (il_o v))) ||| (il_o v))) (upd se b (se b)) (il_change to fr us se lv b (((us b) &&& (il_n (il_o v))) ||| (il_o v)) (se b))) := hD
        refine lv_iload hx hb dX0_use_70 (lv_at hl 1 rfl) ?_
        exact il_retiM hx hb hr hlocks dX0_use_72 hQ hK hP hD hS (by rw [il_use, if_pos c5, if_pos c13, il_nat_nI (i := b) (by omega), il_nat_nI (i := v) (by omega), il_useS, il_put, if_neg c47]) (by rw [il_digR, if_pos c5, if_pos c13, il_nat_nI (i := b) (by omega), il_nat_nI (i := v) (by omega)])
    · have c13 : ¬ il_badV p1 = 0 := c13
      refine lv_iconst (v := (-1)) hx hb dX0_use_16 (by decide) ?_
      exact il_retiM hx hb hr hlocks dX0_use_17 hQ hK hP hD hS (by rw [il_use, if_pos c5, if_neg c13]) (by rw [il_digR, if_pos c5, if_neg c13])
abbrev wsX0_set : List Cond := ws_ yX0_set cX0_set 6 (some .int)
abbrev rmX0_set : Room := il_rm 4 96
set_option maxHeartbeats 4000000 in
set_option maxRecDepth 100000 in
/-- set(b, v, on) -/
theorem metX0_set (l : Launch) (dC : Nat → ClassId) (dI : Nat → Nat → Nat) (h0 q1 q2 q3 q4 q5 : Nat) (d : ClassId) (sz : Nat) (to fr us se lv : il_F) (p0 p1 p2 : Int32) : Met l yX0_set wsX0_set rmX0_set (il_PM dC dI (WX h0 q1 q2 q3 q4 q5 d to fr us se lv) d sz [.ref h0, .int p0, .int p1, .int p2]) (va_Qi (fun (r : Int32) (_ : Unit) => r = il_digR se p0 p1) (il_B dC dI (va_A (WX h0 q1 q2 q3 q4 q5 d to fr us se lv) sz) (WX h0 q1 q2 q3 q4 q5 d to fr ((il_set to fr p0 p1 p2 (us, se, lv)).1) ((il_set to fr p0 p1 p2 (us, se, lv)).2.1) ((il_set to fr p0 p1 p2 (us, se, lv)).2.2)) d) (va_A (WX h0 q1 q2 q3 q4 q5 d to fr us se lv) sz)) 0 0 (va_A (WX h0 q1 q2 q3 q4 q5 d to fr us se lv) sz) := by
  refine Met.ofW (cc := cX0_set) (maxL := 6) (ret := (some .int)) (by decide) rfl ?_
  intro p e s m args below meth c s₁ B hml hv
  obtain ⟨hargs, hsz, hP, hK, hD0⟩ := hv
  have hx := B.exec
  have hb := B.bytes
  have hr := B.returns
  have hlocks := B.notSynchronized
  have hts : ∀ w ∈ lw_all, w.before args s = true := fun w h => atoms_spec (ws := wsX0_set) B.pre w (List.mem_cons_of_mem _ h)
  have hown : s.vm.findClass RX0 = some m.cls := findClass_of_methodNamed B.named
  have hF : CallFix p m c cX0_set 6 s args lw_all RX0 := ⟨hx, hb, hml, hown, hts⟩
  subst hsz
  have hD := hD0.self (sz := s.heap.size)
  generalize hAe : va_A (WX h0 q1 q2 q3 q4 q5 d to fr us se lv) s.heap.size = A at hD ⊢
  have hA : ∀ q : Nat, s.heap.size ≤ q → A q := fun q h => by rw [← hAe]; exact Or.inr h
  have hS : va_S A s.heap s.heap [] := va_S.rf
  refine il_entry (n := 6) (vs := [.ref h0, .int p0, .int p1, .int p2]) (Nat.le_of_ble_eq_true rfl) hargs (fun ls hl => ?_)
  have hl : lv_has ls 6 [(0, .ref h0), (1, .int p0), (2, .int p1), (3, .int p2)] := hl
  generalize hQ : MQ below (va_Qi (fun (r : Int32) (_ : Unit) => r = il_digR se p0 p1) (il_B dC dI A (WX h0 q1 q2 q3 q4 q5 d to fr ((il_set to fr p0 p1 p2 (us, se, lv)).1) ((il_set to fr p0 p1 p2 (us, se, lv)).2.1) ((il_set to fr p0 p1 p2 (us, se, lv)).2.2)) d) A) args s 0 0 A = Q
  have hP : va_P (dC, dI) vwCl (WX h0 q1 q2 q3 q4 q5 d to fr us se lv) s.heap := hP
  refine lv_aload_n hx hb dX0_set_0 rfl (lv_at hl 0 rfl) ?_
  refine lv_iload_n hx hb dX0_set_1 rfl (lv_at hl 1 rfl) ?_
  refine il_callR (As := [.int p0]) (rest := []) (v := il_bad p0) hF hK hP 0 rfl rfl (metX0_bad l dC dI h0 q1 q2 q3 q4 q5 d to fr us se lv p0) (cwV 1 hts (lw_V q51 q53 qs0 q20 q54) rfl rfl rfl (by decide +kernel) ⟨Nat.le_of_ble_eq_true rfl, Nat.le_of_ble_eq_true rfl⟩) rfl hl.1 (Nat.le_of_ble_eq_true rfl) dX0_set_2 ⟨Nat.le_of_ble_eq_true rfl, Nat.le_of_ble_eq_true rfl⟩ rfl ?_
  refine lv_if_ne (tgt := 16) hx hb dX0_set_5 (by decide) (fun c5 => ?_) (fun c5 => ?_)
  · have c5 : ¬ il_bad p0 = 0 := c5
    refine lv_iconst (v := (-1)) hx hb dX0_set_16 (by decide) ?_
    exact il_retiM hx hb hr hlocks dX0_set_17 hQ hK hP hD hS (by rw [il_set, if_neg c5]) (by rw [il_digR, if_neg c5])
  · have c5 : il_bad p0 = 0 := c5
    obtain ⟨b, hb12, rfl⟩ := il_bad_in c5
    refine lv_aload_n hx hb dX0_set_8 rfl (lv_at hl 0 rfl) ?_
    refine lv_iload_n hx hb dX0_set_9 rfl (lv_at hl 2 rfl) ?_
    refine il_callR (As := [.int p1]) (rest := []) (v := il_badV p1) hF hK hP 0 rfl rfl (metX0_badVariable l dC dI h0 q1 q2 q3 q4 q5 d to fr us se lv p1) (cwV 1 hts (lw_V q92 q94 qs8 q20 q95) rfl rfl rfl (by decide +kernel) ⟨Nat.le_of_ble_eq_true rfl, Nat.le_of_ble_eq_true rfl⟩) rfl hl.1 (Nat.le_of_ble_eq_true rfl) dX0_set_10 ⟨Nat.le_of_ble_eq_true rfl, Nat.le_of_ble_eq_true rfl⟩ rfl ?_
    refine lv_if_eq (tgt := 18) hx hb dX0_set_13 (by decide) (fun c13 => ?_) (fun c13 => ?_)
    · have c13 : il_badV p1 = 0 := c13
      obtain ⟨v, hv20, rfl⟩ := il_badV_in c13
      refine lv_aload_n hx hb dX0_set_18 rfl (lv_at hl 0 rfl) ?_
      refine va_get (D := (dC, dI)) (ci := 0) (v := .ref q4) (C := RX0) (T := TX0) (N := 5) hx hb hts in_X0 hown hK hP 0 rfl rfl 3 (by decide) (hts _ q33) (fun _ h9 => h9) rfl dX0_set_19 ?_
      refine lv_iload_n hx hb dX0_set_22 rfl (lv_at hl 1 rfl) ?_
      refine il_ld hx hb hK hP 4 0 rfl rfl hb12 (by decide) dX0_set_23 ?_
      refine lv_iload_n hx hb dX0_set_24 rfl (lv_at hl 2 rfl) ?_
      refine lv_ishr hx hb dX0_set_25 ?_
      refine lv_iconst (v := 1) hx hb dX0_set_26 (by decide) ?_
      refine lv_iand hx hb dX0_set_27 ?_
      refine lv_istore (lv' := [(4, .int (il_b (se b) v)), (0, .ref h0), (1, .int (nI b)), (2, .int (nI v)), (3, .int p2)]) hx hb dX0_set_28 hl (by decide) rfl (fun ls hl => ?_)
      refine lv_aload_n hx hb dX0_set_30 rfl (lv_at hl 1 rfl) ?_
      refine va_get (D := (dC, dI)) (ci := 0) (v := .ref q4) (C := RX0) (T := TX0) (N := 5) hx hb hts in_X0 hown hK hP 0 rfl rfl 3 (by decide) (hts _ q33) (fun _ h9 => h9) rfl dX0_set_31 ?_
      refine lv_iload_n hx hb dX0_set_34 rfl (lv_at hl 2 rfl) ?_
      refine il_ld hx hb hK hP 4 0 rfl rfl hb12 (by decide) dX0_set_35 ?_
      refine lv_iconst (v := 1) hx hb dX0_set_36 (by decide) ?_
      refine lv_iload_n hx hb dX0_set_37 rfl (lv_at hl 3 rfl) ?_
      refine lv_ishl hx hb dX0_set_38 ?_
      refine lv_iconst (v := (-1)) hx hb dX0_set_39 (by decide) ?_
      refine lv_ixor hx hb dX0_set_40 ?_
      refine lv_iand hx hb dX0_set_41 ?_
      refine lv_istore (lv' := [(5, .int ((se b) &&& (il_n (il_o v)))), (4, .int (il_b (se b) v)), (0, .ref h0), (1, .int (nI b)), (2, .int (nI v)), (3, .int p2)]) hx hb dX0_set_42 hl (by decide) rfl (fun ls hl => ?_)
      refine lv_aload_n hx hb dX0_set_44 rfl (lv_at hl 2 rfl) ?_
      refine lv_iload_n hx hb dX0_set_45 rfl (lv_at hl 3 rfl) ?_
      refine lv_aload_n hx hb dX0_set_46 rfl (lv_at hl 2 rfl) ?_
      refine va_get (D := (dC, dI)) (ci := 0) (v := .ref q3) (C := RX0) (T := TX0) (N := 5) hx hb hts in_X0 hown hK hP 0 rfl rfl 2 (by decide) (hts _ q32) (fun _ h9 => h9) rfl dX0_set_47 ?_
      refine lv_iload_n hx hb dX0_set_50 rfl (lv_at hl 3 rfl) ?_
      refine il_ld hx hb hK hP 3 0 rfl rfl hb12 (by decide) dX0_set_51 ?_
      refine lv_iload_n hx hb dX0_set_52 rfl (lv_at hl 5 rfl) ?_
      refine lv_if_eq (tgt := 65) hx hb dX0_set_53 (by decide) (fun c53 => ?_) (fun c53 => ?_)
      · have c53 : p2 = 0 := c53
        refine lv_iload hx hb dX0_set_65 (lv_at hl 0 rfl) ?_
        refine il_callMv (As := [.int (nI b), .int (us b), .int ((se b) &&& (il_n (il_o v)))]) (rest := []) (ws := WX h0 q1 q2 q3 q4 q5 d to fr us se lv) (wr := []) (ws1 := WX h0 q1 q2 q3 q4 q5 d to fr (upd us b (us b)) (upd se b ((se b) &&& (il_n (il_o v)))) (il_change to fr us se lv b (us b) ((se b) &&& (il_n (il_o v))))) hF hK hP hD hS hA [0, 1, 2, 3, 4, 5] [] rfl rfl (by decide) (by decide) (by decide) hP 0 rfl rfl (metX0_change l dC dI h0 q1 q2 q3 q4 q5 d _ to fr us se lv b hb12 (us b) ((se b) &&& (il_n (il_o v)))) (cwV 3 hts (lw_V q96 q98 qs9 q20 q99) rfl rfl rfl (by decide +kernel) ⟨Nat.le_of_ble_eq_true rfl, Nat.le_of_ble_eq_true rfl⟩) rfl hl.1 (Nat.le_of_ble_eq_true rfl) dX0_set_67 ⟨Nat.le_of_ble_eq_true rfl, Nat.le_of_ble_eq_true rfl⟩ rfl (fun H locs hP hD hS => ?_)
        have hP : va_P (dC, dI) vwCl (WX h0 q1 q2 q3 q4 q5 d to fr (upd us b (us b)) (upd se b ((se b) &&& (il_n (il_o v)))) (il_change to fr us se lv b (us b) ((se b) &&& (il_n (il_o v))))) H := hP
        have hD : va_D A (WX h0 q1 q2 q3 q4 q5 d to fr (upd us b (us b)) (upd se b ((se b) &&& (il_n (il_o v)))) (il_change to fr us se lv b (us b) ((se b) &&& (il_n (il_o v))))) := hD
        refine lv_iload hx hb dX0_set_70 (lv_at hl 1 rfl) ?_
        exact il_retiM hx hb hr hlocks dX0_set_72 hQ hK hP hD hS (by rw [il_set, if_pos c5, if_pos c13, il_nat_nI (i := b) (by omega), il_nat_nI (i := v) (by omega), il_setS, il_put, if_pos c53]) (by rw [il_digR, if_pos c5, if_pos c13, il_nat_nI (i := b) (by omega), il_nat_nI (i := v) (by omega)])
      · have c53 : ¬ p2 = 0 := c53
        refine lv_iload hx hb dX0_set_56 (lv_at hl 0 rfl) ?_
        refine lv_iconst (v := 1) hx hb dX0_set_58 (by decide) ?_
        refine lv_iload_n hx hb dX0_set_59 rfl (lv_at hl 4 rfl) ?_
        refine lv_ishl hx hb dX0_set_60 ?_
        refine lv_ior hx hb dX0_set_61 ?_
        refine lv_goto (tgt := 67) hx hb dX0_set_62 (by decide) ?_
        refine il_callMv (As := [.int (nI b), .int (us b), .int (((se b) &&& (il_n (il_o v))) ||| (il_o v))]) (rest := []) (ws := WX h0 q1 q2 q3 q4 q5 d to fr us se lv) (wr := []) (ws1 := WX h0 q1 q2 q3 q4 q5 d to fr (upd us b (us b)) (upd se b (((se b) &&& (il_n (il_o v))) ||| (il_o v))) (il_change to fr us se lv b (us b) (((se b) &&& (il_n (il_o v))) ||| (il_o v)))) hF hK hP hD hS hA [0, 1, 2, 3, 4, 5] [] rfl rfl (by decide) (by decide) (by decide) hP 0 rfl rfl (metX0_change l dC dI h0 q1 q2 q3 q4 q5 d _ to fr us se lv b hb12 (us b) (((se b) &&& (il_n (il_o v))) ||| (il_o v))) (cwV 3 hts (lw_V q96 q98 qs9 q20 q99) rfl rfl rfl (by decide +kernel) ⟨Nat.le_of_ble_eq_true rfl, Nat.le_of_ble_eq_true rfl⟩) rfl hl.1 (Nat.le_of_ble_eq_true rfl) dX0_set_67 ⟨Nat.le_of_ble_eq_true rfl, Nat.le_of_ble_eq_true rfl⟩ rfl (fun H locs hP hD hS => ?_)
        have hP : va_P (dC, dI) vwCl (WX h0 q1 q2 q3 q4 q5 d to fr (upd us b (us b)) (upd se b (((se b) &&& (il_n (il_o v))) ||| (il_o v))) (il_change to fr us se lv b (us b) (((se b) &&& (il_n (il_o v))) ||| (il_o v)))) H := hP
        have hD : va_D A (WX h0 q1 q2 q3 q4 q5 d to fr (upd us b (us b)) (upd se b (((se b) &&& (il_n (il_o v))) ||| (il_o v))) (il_change to fr us se lv b (us b) (((se b) &&& (il_n (il_o v))) ||| (il_o v)))) := hD
        refine lv_iload hx hb dX0_set_70 (lv_at hl 1 rfl) ?_
        exact il_retiM hx hb hr hlocks dX0_set_72 hQ hK hP hD hS (by rw [il_set, if_pos c5, if_pos c13, il_nat_nI (i := b) (by omega), il_nat_nI (i := v) (by omega), il_setS, il_put, if_neg c53]) (by rw [il_digR, if_pos c5, if_pos c13, il_nat_nI (i := b) (by omega), il_nat_nI (i := v) (by omega)])
    · have c13 : ¬ il_badV p1 = 0 := c13
      refine lv_iconst (v := (-1)) hx hb dX0_set_16 (by decide) ?_
      exact il_retiM hx hb hr hlocks dX0_set_17 hQ hK hP hD hS (by rw [il_set, if_pos c5, if_neg c13]) (by rw [il_digR, if_pos c5, if_neg c13])
abbrev wsX0_block : List Cond := ws_ yX0_block cX0_block 4 (some .int)
abbrev rmX0_block : Room := il_rm 4 96
set_option maxHeartbeats 4000000 in
set_option maxRecDepth 100000 in
/-- block(b, uses, sets) -/
theorem metX0_block (l : Launch) (dC : Nat → ClassId) (dI : Nat → Nat → Nat) (h0 q1 q2 q3 q4 q5 : Nat) (d : ClassId) (sz : Nat) (to fr us se lv : il_F) (p0 p1 p2 : Int32) : Met l yX0_block wsX0_block rmX0_block (il_PM dC dI (WX h0 q1 q2 q3 q4 q5 d to fr us se lv) d sz [.ref h0, .int p0, .int p1, .int p2]) (va_Qi (fun (r : Int32) (_ : Unit) => r = il_blockR p0 p1 p2) (il_B dC dI (va_A (WX h0 q1 q2 q3 q4 q5 d to fr us se lv) sz) (WX h0 q1 q2 q3 q4 q5 d to fr ((il_block to fr p0 p1 p2 (us, se, lv)).1) ((il_block to fr p0 p1 p2 (us, se, lv)).2.1) ((il_block to fr p0 p1 p2 (us, se, lv)).2.2)) d) (va_A (WX h0 q1 q2 q3 q4 q5 d to fr us se lv) sz)) 0 0 (va_A (WX h0 q1 q2 q3 q4 q5 d to fr us se lv) sz) := by
  refine Met.ofW (cc := cX0_block) (maxL := 4) (ret := (some .int)) (by decide) rfl ?_
  intro p e s m args below meth c s₁ B hml hv
  obtain ⟨hargs, hsz, hP, hK, hD0⟩ := hv
  have hx := B.exec
  have hb := B.bytes
  have hr := B.returns
  have hlocks := B.notSynchronized
  have hts : ∀ w ∈ lw_all, w.before args s = true := fun w h => atoms_spec (ws := wsX0_block) B.pre w (List.mem_cons_of_mem _ h)
  have hown : s.vm.findClass RX0 = some m.cls := findClass_of_methodNamed B.named
  have hF : CallFix p m c cX0_block 4 s args lw_all RX0 := ⟨hx, hb, hml, hown, hts⟩
  subst hsz
  have hD := hD0.self (sz := s.heap.size)
  generalize hAe : va_A (WX h0 q1 q2 q3 q4 q5 d to fr us se lv) s.heap.size = A at hD ⊢
  have hA : ∀ q : Nat, s.heap.size ≤ q → A q := fun q h => by rw [← hAe]; exact Or.inr h
  have hS : va_S A s.heap s.heap [] := va_S.rf
  refine il_entry (n := 4) (vs := [.ref h0, .int p0, .int p1, .int p2]) (Nat.le_of_ble_eq_true rfl) hargs (fun ls hl => ?_)
  have hl : lv_has ls 4 [(0, .ref h0), (1, .int p0), (2, .int p1), (3, .int p2)] := hl
  generalize hQ : MQ below (va_Qi (fun (r : Int32) (_ : Unit) => r = il_blockR p0 p1 p2) (il_B dC dI A (WX h0 q1 q2 q3 q4 q5 d to fr ((il_block to fr p0 p1 p2 (us, se, lv)).1) ((il_block to fr p0 p1 p2 (us, se, lv)).2.1) ((il_block to fr p0 p1 p2 (us, se, lv)).2.2)) d) A) args s 0 0 A = Q
  have hP : va_P (dC, dI) vwCl (WX h0 q1 q2 q3 q4 q5 d to fr us se lv) s.heap := hP
  refine lv_aload_n hx hb dX0_block_0 rfl (lv_at hl 0 rfl) ?_
  refine lv_iload_n hx hb dX0_block_1 rfl (lv_at hl 1 rfl) ?_
  refine il_callR (As := [.int p0]) (rest := []) (v := il_bad p0) hF hK hP 0 rfl rfl (metX0_bad l dC dI h0 q1 q2 q3 q4 q5 d to fr us se lv p0) (cwV 1 hts (lw_V q51 q53 qs0 q20 q54) rfl rfl rfl (by decide +kernel) ⟨Nat.le_of_ble_eq_true rfl, Nat.le_of_ble_eq_true rfl⟩) rfl hl.1 (Nat.le_of_ble_eq_true rfl) dX0_block_2 ⟨Nat.le_of_ble_eq_true rfl, Nat.le_of_ble_eq_true rfl⟩ rfl ?_
  refine lv_if_ne (tgt := 28) hx hb dX0_block_5 (by decide) (fun c5 => ?_) (fun c5 => ?_)
  · have c5 : ¬ il_bad p0 = 0 := c5
    refine lv_iconst (v := (-1)) hx hb dX0_block_28 (by decide) ?_
    exact il_retiM hx hb hr hlocks dX0_block_29 hQ hK hP hD hS (by rw [il_block, if_neg c5]) (by rw [il_blockR, if_neg c5])
  · have c5 : il_bad p0 = 0 := c5
    obtain ⟨b, hb12, rfl⟩ := il_bad_in c5
    refine lv_iload_n hx hb dX0_block_8 rfl (lv_at hl 2 rfl) ?_
    refine lv_if_lt (tgt := 28) hx hb dX0_block_9 (by decide) (fun c9 => ?_) (fun c9 => ?_)
    · have c9 : p1 < 0 := c9
      refine lv_iconst (v := (-1)) hx hb dX0_block_28 (by decide) ?_
      exact il_retiM hx hb hr hlocks dX0_block_29 hQ hK hP hD hS (by rw [il_block, if_pos c5, if_pos c9]) (by rw [il_blockR, if_pos c5, if_pos c9])
    · have c9 : ¬ p1 < 0 := c9
      refine lv_iload_n hx hb dX0_block_12 rfl (lv_at hl 2 rfl) ?_
      refine lv_ldc (v := 1048575) hx hb hown (hts _ q75) dX0_block_13 ?_
      refine lv_icmp_gt (tgt := 28) hx hb dX0_block_15 (by decide) (fun c15 => ?_) (fun c15 => ?_)
      · have c15 : 1048575 < p1 := c15
        refine lv_iconst (v := (-1)) hx hb dX0_block_28 (by decide) ?_
        exact il_retiM hx hb hr hlocks dX0_block_29 hQ hK hP hD hS (by rw [il_block, if_pos c5, if_neg c9, if_pos c15]) (by rw [il_blockR, if_pos c5, if_neg c9, if_pos c15])
      · have c15 : ¬ 1048575 < p1 := c15
        refine lv_iload_n hx hb dX0_block_18 rfl (lv_at hl 3 rfl) ?_
        refine lv_if_lt (tgt := 28) hx hb dX0_block_19 (by decide) (fun c19 => ?_) (fun c19 => ?_)
        · have c19 : p2 < 0 := c19
          refine lv_iconst (v := (-1)) hx hb dX0_block_28 (by decide) ?_
          exact il_retiM hx hb hr hlocks dX0_block_29 hQ hK hP hD hS (by rw [il_block, if_pos c5, if_neg c9, if_neg c15, if_pos c19]) (by rw [il_blockR, if_pos c5, if_neg c9, if_neg c15, if_pos c19])
        · have c19 : ¬ p2 < 0 := c19
          refine lv_iload_n hx hb dX0_block_22 rfl (lv_at hl 3 rfl) ?_
          refine lv_ldc (v := 1048575) hx hb hown (hts _ q75) dX0_block_23 ?_
          refine lv_icmp_le (tgt := 30) hx hb dX0_block_25 (by decide) (fun c25 => ?_) (fun c25 => ?_)
          · have c25 : p2 ≤ 1048575 := c25
            refine lv_aload_n hx hb dX0_block_30 rfl (lv_at hl 0 rfl) ?_
            refine lv_iload_n hx hb dX0_block_31 rfl (lv_at hl 1 rfl) ?_
            refine lv_iload_n hx hb dX0_block_32 rfl (lv_at hl 2 rfl) ?_
            refine lv_iload_n hx hb dX0_block_33 rfl (lv_at hl 3 rfl) ?_
            refine il_callMv (As := [.int (nI b), .int p1, .int p2]) (rest := []) (ws := WX h0 q1 q2 q3 q4 q5 d to fr us se lv) (wr := []) (ws1 := WX h0 q1 q2 q3 q4 q5 d to fr (upd us b p1) (upd se b p2) (il_change to fr us se lv b p1 p2)) hF hK hP hD hS hA [0, 1, 2, 3, 4, 5] [] rfl rfl (by decide) (by decide) (by decide) hP 0 rfl rfl (metX0_change l dC dI h0 q1 q2 q3 q4 q5 d _ to fr us se lv b hb12 p1 p2) (cwV 3 hts (lw_V q96 q98 qs9 q20 q99) rfl rfl rfl (by decide +kernel) ⟨Nat.le_of_ble_eq_true rfl, Nat.le_of_ble_eq_true rfl⟩) rfl hl.1 (Nat.le_of_ble_eq_true rfl) dX0_block_34 ⟨Nat.le_of_ble_eq_true rfl, Nat.le_of_ble_eq_true rfl⟩ rfl (fun H locs hP hD hS => ?_)
            have hP : va_P (dC, dI) vwCl (WX h0 q1 q2 q3 q4 q5 d to fr (upd us b p1) (upd se b p2) (il_change to fr us se lv b p1 p2)) H := hP
            have hD : va_D A (WX h0 q1 q2 q3 q4 q5 d to fr (upd us b p1) (upd se b p2) (il_change to fr us se lv b p1 p2)) := hD
            refine lv_iconst (v := 0) hx hb dX0_block_37 (by decide) ?_
            exact il_retiM hx hb hr hlocks dX0_block_38 hQ hK hP hD hS (by rw [il_block, if_pos c5, if_neg c9, if_neg c15, if_neg c19, if_pos c25, il_nat_nI (i := b) (by omega)]) (by rw [il_blockR, if_pos c5, if_neg c9, if_neg c15, if_neg c19, if_pos c25])
          · have c25 : ¬ p2 ≤ 1048575 := c25
            refine lv_iconst (v := (-1)) hx hb dX0_block_28 (by decide) ?_
            exact il_retiM hx hb hr hlocks dX0_block_29 hQ hK hP hD hS (by rw [il_block, if_pos c5, if_neg c9, if_neg c15, if_neg c19, if_neg c25]) (by rw [il_blockR, if_pos c5, if_neg c9, if_neg c15, if_neg c19, if_neg c25])
abbrev wsX0_cutOff : List Cond := ws_ yX0_cutOff cX0_cutOff 4 (some .int)
abbrev rmX0_cutOff : Room := il_rm 4 94
set_option maxHeartbeats 4000000 in
set_option maxRecDepth 100000 in
/-- cutOff(b) -/
theorem metX0_cutOff (l : Launch) (dC : Nat → ClassId) (dI : Nat → Nat → Nat) (h0 q1 q2 q3 q4 q5 : Nat) (d : ClassId) (sz : Nat) (to fr us se lv : il_F) (p0 : Int32) : Met l yX0_cutOff wsX0_cutOff rmX0_cutOff (il_PM dC dI (WX h0 q1 q2 q3 q4 q5 d to fr us se lv) d sz [.ref h0, .int p0]) (va_Qi (fun (r : Int32) (_ : Unit) => r = il_cutOffR us se p0 (to, fr, lv)) (il_B dC dI (va_A (WX h0 q1 q2 q3 q4 q5 d to fr us se lv) sz) (WX h0 q1 q2 q3 q4 q5 d ((il_cutOff us se p0 (to, fr, lv)).1) ((il_cutOff us se p0 (to, fr, lv)).2.1) us se ((il_cutOff us se p0 (to, fr, lv)).2.2)) d) (va_A (WX h0 q1 q2 q3 q4 q5 d to fr us se lv) sz)) 0 0 (va_A (WX h0 q1 q2 q3 q4 q5 d to fr us se lv) sz) := by
  refine Met.ofW (cc := cX0_cutOff) (maxL := 4) (ret := (some .int)) (by decide) rfl ?_
  intro p e s m args below meth c s₁ B hml hv
  obtain ⟨hargs, hsz, hP, hK, hD0⟩ := hv
  have hx := B.exec
  have hb := B.bytes
  have hr := B.returns
  have hlocks := B.notSynchronized
  have hts : ∀ w ∈ lw_all, w.before args s = true := fun w h => atoms_spec (ws := wsX0_cutOff) B.pre w (List.mem_cons_of_mem _ h)
  have hown : s.vm.findClass RX0 = some m.cls := findClass_of_methodNamed B.named
  have hF : CallFix p m c cX0_cutOff 4 s args lw_all RX0 := ⟨hx, hb, hml, hown, hts⟩
  subst hsz
  have hD := hD0.self (sz := s.heap.size)
  generalize hAe : va_A (WX h0 q1 q2 q3 q4 q5 d to fr us se lv) s.heap.size = A at hD ⊢
  have hA : ∀ q : Nat, s.heap.size ≤ q → A q := fun q h => by rw [← hAe]; exact Or.inr h
  have hS : va_S A s.heap s.heap [] := va_S.rf
  refine il_entry (n := 4) (vs := [.ref h0, .int p0]) (Nat.le_of_ble_eq_true rfl) hargs (fun ls hl => ?_)
  have hl : lv_has ls 4 [(0, .ref h0), (1, .int p0)] := hl
  generalize hQ : MQ below (va_Qi (fun (r : Int32) (_ : Unit) => r = il_cutOffR us se p0 (to, fr, lv)) (il_B dC dI A (WX h0 q1 q2 q3 q4 q5 d ((il_cutOff us se p0 (to, fr, lv)).1) ((il_cutOff us se p0 (to, fr, lv)).2.1) us se ((il_cutOff us se p0 (to, fr, lv)).2.2)) d) A) args s 0 0 A = Q
  have hP : va_P (dC, dI) vwCl (WX h0 q1 q2 q3 q4 q5 d to fr us se lv) s.heap := hP
  refine lv_aload_n hx hb dX0_cutOff_0 rfl (lv_at hl 0 rfl) ?_
  refine lv_iload_n hx hb dX0_cutOff_1 rfl (lv_at hl 1 rfl) ?_
  refine il_callR (As := [.int p0]) (rest := []) (v := il_bad p0) hF hK hP 0 rfl rfl (metX0_bad l dC dI h0 q1 q2 q3 q4 q5 d to fr us se lv p0) (cwV 1 hts (lw_V q51 q53 qs0 q20 q54) rfl rfl rfl (by decide +kernel) ⟨Nat.le_of_ble_eq_true rfl, Nat.le_of_ble_eq_true rfl⟩) rfl hl.1 (Nat.le_of_ble_eq_true rfl) dX0_cutOff_2 ⟨Nat.le_of_ble_eq_true rfl, Nat.le_of_ble_eq_true rfl⟩ rfl ?_
  refine lv_if_eq (tgt := 10) hx hb dX0_cutOff_5 (by decide) (fun c5 => ?_) (fun c5 => ?_)
  · have c5 : il_bad p0 = 0 := c5
    obtain ⟨b, hb12, rfl⟩ := il_bad_in c5
    refine lv_iconst (v := 0) hx hb dX0_cutOff_10 (by decide) ?_
    refine lv_istore_n (lv' := [(2, .int 0), (0, .ref h0), (1, .int (nI b))]) hx hb dX0_cutOff_11 rfl hl (by decide) rfl (fun ls hl => ?_)
    refine lv_iconst (v := 0) hx hb dX0_cutOff_12 (by decide) ?_
    refine lv_istore_n (lv' := [(3, .int 0), (2, .int 0), (0, .ref h0), (1, .int (nI b))]) hx hb dX0_cutOff_13 rfl hl (by decide) rfl (fun ls hl => ?_)
    have L14 : ∀ (n14 : Nat) (i : Nat) (to1 : il_F) (fr1 : il_F) (lv1 : il_F) (x2 : Int32), 13 ≤ i + n14 → i ≤ 12 → (x2, to1, fr1, lv1) = il_cutL us se b i (to, fr, lv) → ∀ (H : Heap) (locs : List Loc), va_P (dC, dI) vwCl (WX h0 q1 q2 q3 q4 q5 d to1 fr1 us se lv1) H → va_D A (WX h0 q1 q2 q3 q4 q5 d to1 fr1 us se lv1) → va_S A s.heap H locs → ∀ ls : Array Slot, lv_has ls 4 [(0, .ref h0), (1, .int (nI b)), (2, .int x2), (3, .int (nI i))] → W p l e (headSpec wsX0_cutOff rmX0_cutOff).room s m args below meth c H locs 0 0 Q (F0 m 14 ls []) := by
      intro n14
      induction n14 with
      | zero =>
        intro i to1 fr1 lv1 x2 hfu hi e1
        exact absurd hfu (by omega)
      | succ n14 ih14 =>
        intro i to1 fr1 lv1 x2 hfu hi e1 H locs hP hD hS ls hl
        refine lv_iload_n hx hb dX0_cutOff_14 rfl (lv_at hl 3 rfl) ?_
        refine lv_bipush (v := 12) hx hb dX0_cutOff_15 (by decide) ?_
        refine lv_icmp_ge (tgt := 64) hx hb dX0_cutOff_17 (by decide) (fun c17 => ?_) (fun c17 => ?_)
        · have c17 : 12 ≤ nI i := c17
          have h17 : 12 ≤ i := il_ge (N := 12) (i := i) c17 (by omega) (by omega)
          refine lv_iload_n hx hb dX0_cutOff_64 rfl (lv_at hl 2 rfl) ?_
          exact il_retiM hx hb hr hlocks dX0_cutOff_65 hQ hK hP hD hS (by have e9 := e1; rw [show i = 12 by omega] at e9; rw [il_cutOff, if_pos c5, il_nat_nI (i := b) (by omega), ← e9]) (by have e9 := e1; rw [show i = 12 by omega] at e9; rw [il_cutOffR, if_pos c5, il_nat_nI (i := b) (by omega), ← e9])
        · have c17 : ¬ 12 ≤ nI i := c17
          have h17 : i < 12 := il_nge (N := 12) (i := i) c17 (by omega)
          refine lv_iload_n hx hb dX0_cutOff_20 rfl (lv_at hl 2 rfl) ?_
          refine lv_aload_n hx hb dX0_cutOff_21 rfl (lv_at hl 0 rfl) ?_
          refine va_get (D := (dC, dI)) (ci := 0) (v := .ref q1) (C := RX0) (T := TX0) (N := 5) hx hb hts in_X0 hown hK hP 0 rfl rfl 0 (by decide) (hts _ q30) (fun _ h9 => h9) rfl dX0_cutOff_22 ?_
          refine lv_iload_n hx hb dX0_cutOff_25 rfl (lv_at hl 1 rfl) ?_
          refine il_ld hx hb hK hP 1 0 rfl rfl hb12 (by decide) dX0_cutOff_26 ?_
          refine lv_iload_n hx hb dX0_cutOff_27 rfl (lv_at hl 3 rfl) ?_
          refine lv_ishr hx hb dX0_cutOff_28 ?_
          refine lv_iconst (v := 1) hx hb dX0_cutOff_29 (by decide) ?_
          refine lv_iand hx hb dX0_cutOff_30 ?_
          refine lv_iadd hx hb dX0_cutOff_31 ?_
          refine lv_istore_n (lv' := [(2, .int (x2 + (il_b (to1 b) i))), (0, .ref h0), (1, .int (nI b)), (3, .int (nI i))]) hx hb dX0_cutOff_32 rfl hl (by decide) rfl (fun ls hl => ?_)
          refine lv_aload_n hx hb dX0_cutOff_33 rfl (lv_at hl 1 rfl) ?_
          refine lv_iload_n hx hb dX0_cutOff_34 rfl (lv_at hl 2 rfl) ?_
          refine lv_iload_n hx hb dX0_cutOff_35 rfl (lv_at hl 3 rfl) ?_
          refine il_callMv (As := [.int (nI b), .int (nI i)]) (rest := []) (ws := WX h0 q1 q2 q3 q4 q5 d to1 fr1 us se lv1) (wr := []) (ws1 := WX h0 q1 q2 q3 q4 q5 d ((il_part us se b i (to1, fr1, lv1)).1) ((il_part us se b i (to1, fr1, lv1)).2.1) us se ((il_part us se b i (to1, fr1, lv1)).2.2)) hF hK hP hD hS hA [0, 1, 2, 3, 4, 5] [] rfl rfl (by decide) (by decide) (by decide) hP 0 rfl rfl (metX0_part l dC dI h0 q1 q2 q3 q4 q5 d _ to1 fr1 us se lv1 b hb12 i h17) (cwV 2 hts (lw_V q71 q73 qs5 q20 q74) rfl rfl rfl (by decide +kernel) ⟨Nat.le_of_ble_eq_true rfl, Nat.le_of_ble_eq_true rfl⟩) rfl hl.1 (Nat.le_of_ble_eq_true rfl) dX0_cutOff_36 ⟨Nat.le_of_ble_eq_true rfl, Nat.le_of_ble_eq_true rfl⟩ rfl (fun H locs hP hD hS => ?_)
          have hP : va_P (dC, dI) vwCl (WX h0 q1 q2 q3 q4 q5 d ((il_part us se b i (to1, fr1, lv1)).1) ((il_part us se b i (to1, fr1, lv1)).2.1) us se ((il_part us se b i (to1, fr1, lv1)).2.2)) H := hP
          have hD : va_D A (WX h0 q1 q2 q3 q4 q5 d ((il_part us se b i (to1, fr1, lv1)).1) ((il_part us se b i (to1, fr1, lv1)).2.1) us se ((il_part us se b i (to1, fr1, lv1)).2.2)) := hD
          generalize hT36 : il_part us se b i (to1, fr1, lv1) = T36 at hP hD
          obtain ⟨to36, fr36, lv36⟩ := T36
          have hP : va_P (dC, dI) vwCl (WX h0 q1 q2 q3 q4 q5 d to36 fr36 us se lv36) H := hP
          have hD : va_D A (WX h0 q1 q2 q3 q4 q5 d to36 fr36 us se lv36) := hD
          refine lv_iload_n hx hb dX0_cutOff_39 rfl (lv_at hl 0 rfl) ?_
          refine lv_aload_n hx hb dX0_cutOff_40 rfl (lv_at hl 1 rfl) ?_
          refine va_get (D := (dC, dI)) (ci := 0) (v := .ref q1) (C := RX0) (T := TX0) (N := 5) hx hb hts in_X0 hown hK hP 0 rfl rfl 0 (by decide) (hts _ q30) (fun _ h9 => h9) rfl dX0_cutOff_41 ?_
          refine lv_iload_n hx hb dX0_cutOff_44 rfl (lv_at hl 3 rfl) ?_
          refine il_ld hx hb hK hP 1 0 rfl rfl h17 (by decide) dX0_cutOff_45 ?_
          refine lv_iload_n hx hb dX0_cutOff_46 rfl (lv_at hl 2 rfl) ?_
          refine lv_ishr hx hb dX0_cutOff_47 ?_
          refine lv_iconst (v := 1) hx hb dX0_cutOff_48 (by decide) ?_
          refine lv_iand hx hb dX0_cutOff_49 ?_
          refine lv_iadd hx hb dX0_cutOff_50 ?_
          refine lv_istore_n (lv' := [(2, .int ((x2 + (il_b (to1 b) i)) + (il_b (to36 i) b))), (0, .ref h0), (1, .int (nI b)), (3, .int (nI i))]) hx hb dX0_cutOff_51 rfl hl (by decide) rfl (fun ls hl => ?_)
          refine lv_aload_n hx hb dX0_cutOff_52 rfl (lv_at hl 1 rfl) ?_
          refine lv_iload_n hx hb dX0_cutOff_53 rfl (lv_at hl 3 rfl) ?_
          refine lv_iload_n hx hb dX0_cutOff_54 rfl (lv_at hl 2 rfl) ?_
          refine il_callMv (As := [.int (nI i), .int (nI b)]) (rest := []) (ws := WX h0 q1 q2 q3 q4 q5 d to36 fr36 us se lv36) (wr := []) (ws1 := WX h0 q1 q2 q3 q4 q5 d ((il_part us se i b (to36, fr36, lv36)).1) ((il_part us se i b (to36, fr36, lv36)).2.1) us se ((il_part us se i b (to36, fr36, lv36)).2.2)) hF hK hP hD hS hA [0, 1, 2, 3, 4, 5] [] rfl rfl (by decide) (by decide) (by decide) hP 0 rfl rfl (metX0_part l dC dI h0 q1 q2 q3 q4 q5 d _ to36 fr36 us se lv36 i h17 b hb12) (cwV 2 hts (lw_V q71 q73 qs5 q20 q74) rfl rfl rfl (by decide +kernel) ⟨Nat.le_of_ble_eq_true rfl, Nat.le_of_ble_eq_true rfl⟩) rfl hl.1 (Nat.le_of_ble_eq_true rfl) dX0_cutOff_55 ⟨Nat.le_of_ble_eq_true rfl, Nat.le_of_ble_eq_true rfl⟩ rfl (fun H locs hP hD hS => ?_)
          have hP : va_P (dC, dI) vwCl (WX h0 q1 q2 q3 q4 q5 d ((il_part us se i b (to36, fr36, lv36)).1) ((il_part us se i b (to36, fr36, lv36)).2.1) us se ((il_part us se i b (to36, fr36, lv36)).2.2)) H := hP
          have hD : va_D A (WX h0 q1 q2 q3 q4 q5 d ((il_part us se i b (to36, fr36, lv36)).1) ((il_part us se i b (to36, fr36, lv36)).2.1) us se ((il_part us se i b (to36, fr36, lv36)).2.2)) := hD
          generalize hT55 : il_part us se i b (to36, fr36, lv36) = T55 at hP hD
          obtain ⟨to55, fr55, lv55⟩ := T55
          have hP : va_P (dC, dI) vwCl (WX h0 q1 q2 q3 q4 q5 d to55 fr55 us se lv55) H := hP
          have hD : va_D A (WX h0 q1 q2 q3 q4 q5 d to55 fr55 us se lv55) := hD
          refine lv_iinc (v := nI (i + 1)) (lv' := [(3, .int (nI (i + 1))), (2, .int ((x2 + (il_b (to1 b) i)) + (il_b (to36 i) b))), (0, .ref h0), (1, .int (nI b))]) hx hb dX0_cutOff_58 hl (k := 3) rfl (nI_1 i) (by decide) rfl (fun ls hl => ?_)
          refine lv_goto (tgt := 14) hx hb dX0_cutOff_61 (by decide) ?_
          exact ih14 (i + 1) to55 fr55 lv55 ((x2 + (il_b (to1 b) i)) + (il_b (to36 i) b)) (by omega) (by omega) (by rw [il_cutL, il_up_s]; show _ = il_cutS us se b i (il_cutL us se b i (to, fr, lv)).1 (il_cutL us se b i (to, fr, lv)).2; rw [← e1]; show _ = il_cutS us se b i x2 (to1, fr1, lv1); rw [il_cutS, hT36, hT55]) _ _ hP hD hS ls (lv_sub hl [2, 3, 1, 0] rfl)
    exact L14 13 0 to fr lv 0 (by decide) (by decide) rfl _ _ hP hD hS ls (lv_sub hl [2, 3, 1, 0] rfl)
  · have c5 : ¬ il_bad p0 = 0 := c5
    refine lv_iconst (v := (-1)) hx hb dX0_cutOff_8 (by decide) ?_
    exact il_retiM hx hb hr hlocks dX0_cutOff_9 hQ hK hP hD hS (by rw [il_cutOff, if_neg c5]) (by rw [il_cutOffR, if_neg c5])
abbrev wsX0_takeOver : List Cond := ws_ yX0_takeOver cX0_takeOver 5 (some .int)
abbrev rmX0_takeOver : Room := il_rm 4 94
set_option maxHeartbeats 4000000 in
set_option maxRecDepth 100000 in
/-- takeOver(b, c) -/
theorem metX0_takeOver (l : Launch) (dC : Nat → ClassId) (dI : Nat → Nat → Nat) (h0 q1 q2 q3 q4 q5 : Nat) (d : ClassId) (sz : Nat) (to fr us se lv : il_F) (p0 p1 : Int32) : Met l yX0_takeOver wsX0_takeOver rmX0_takeOver (il_PM dC dI (WX h0 q1 q2 q3 q4 q5 d to fr us se lv) d sz [.ref h0, .int p0, .int p1]) (va_Qi (fun (r : Int32) (_ : Unit) => r = il_takeOverR us se p0 p1 (to, fr, lv)) (il_B dC dI (va_A (WX h0 q1 q2 q3 q4 q5 d to fr us se lv) sz) (WX h0 q1 q2 q3 q4 q5 d ((il_takeOver us se p0 p1 (to, fr, lv)).1) ((il_takeOver us se p0 p1 (to, fr, lv)).2.1) us se ((il_takeOver us se p0 p1 (to, fr, lv)).2.2)) d) (va_A (WX h0 q1 q2 q3 q4 q5 d to fr us se lv) sz)) 0 0 (va_A (WX h0 q1 q2 q3 q4 q5 d to fr us se lv) sz) := by
  refine Met.ofW (cc := cX0_takeOver) (maxL := 5) (ret := (some .int)) (by decide) rfl ?_
  intro p e s m args below meth c s₁ B hml hv
  obtain ⟨hargs, hsz, hP, hK, hD0⟩ := hv
  have hx := B.exec
  have hb := B.bytes
  have hr := B.returns
  have hlocks := B.notSynchronized
  have hts : ∀ w ∈ lw_all, w.before args s = true := fun w h => atoms_spec (ws := wsX0_takeOver) B.pre w (List.mem_cons_of_mem _ h)
  have hown : s.vm.findClass RX0 = some m.cls := findClass_of_methodNamed B.named
  have hF : CallFix p m c cX0_takeOver 5 s args lw_all RX0 := ⟨hx, hb, hml, hown, hts⟩
  subst hsz
  have hD := hD0.self (sz := s.heap.size)
  generalize hAe : va_A (WX h0 q1 q2 q3 q4 q5 d to fr us se lv) s.heap.size = A at hD ⊢
  have hA : ∀ q : Nat, s.heap.size ≤ q → A q := fun q h => by rw [← hAe]; exact Or.inr h
  have hS : va_S A s.heap s.heap [] := va_S.rf
  refine il_entry (n := 5) (vs := [.ref h0, .int p0, .int p1]) (Nat.le_of_ble_eq_true rfl) hargs (fun ls hl => ?_)
  have hl : lv_has ls 5 [(0, .ref h0), (1, .int p0), (2, .int p1)] := hl
  generalize hQ : MQ below (va_Qi (fun (r : Int32) (_ : Unit) => r = il_takeOverR us se p0 p1 (to, fr, lv)) (il_B dC dI A (WX h0 q1 q2 q3 q4 q5 d ((il_takeOver us se p0 p1 (to, fr, lv)).1) ((il_takeOver us se p0 p1 (to, fr, lv)).2.1) us se ((il_takeOver us se p0 p1 (to, fr, lv)).2.2)) d) A) args s 0 0 A = Q
  have hP : va_P (dC, dI) vwCl (WX h0 q1 q2 q3 q4 q5 d to fr us se lv) s.heap := hP
  refine lv_aload_n hx hb dX0_takeOver_0 rfl (lv_at hl 0 rfl) ?_
  refine lv_iload_n hx hb dX0_takeOver_1 rfl (lv_at hl 1 rfl) ?_
  refine il_callR (As := [.int p0]) (rest := []) (v := il_bad p0) hF hK hP 0 rfl rfl (metX0_bad l dC dI h0 q1 q2 q3 q4 q5 d to fr us se lv p0) (cwV 1 hts (lw_V q51 q53 qs0 q20 q54) rfl rfl rfl (by decide +kernel) ⟨Nat.le_of_ble_eq_true rfl, Nat.le_of_ble_eq_true rfl⟩) rfl hl.1 (Nat.le_of_ble_eq_true rfl) dX0_takeOver_2 ⟨Nat.le_of_ble_eq_true rfl, Nat.le_of_ble_eq_true rfl⟩ rfl ?_
  refine lv_if_ne (tgt := 21) hx hb dX0_takeOver_5 (by decide) (fun c5 => ?_) (fun c5 => ?_)
  · have c5 : ¬ il_bad p0 = 0 := c5
    refine lv_iconst (v := (-1)) hx hb dX0_takeOver_21 (by decide) ?_
    exact il_retiM hx hb hr hlocks dX0_takeOver_22 hQ hK hP hD hS (by rw [il_takeOver, if_neg c5]) (by rw [il_takeOverR, if_neg c5])
  · have c5 : il_bad p0 = 0 := c5
    obtain ⟨b, hb12, rfl⟩ := il_bad_in c5
    refine lv_aload_n hx hb dX0_takeOver_8 rfl (lv_at hl 0 rfl) ?_
    refine lv_iload_n hx hb dX0_takeOver_9 rfl (lv_at hl 2 rfl) ?_
    refine il_callR (As := [.int p1]) (rest := []) (v := il_bad p1) hF hK hP 0 rfl rfl (metX0_bad l dC dI h0 q1 q2 q3 q4 q5 d to fr us se lv p1) (cwV 1 hts (lw_V q51 q53 qs0 q20 q54) rfl rfl rfl (by decide +kernel) ⟨Nat.le_of_ble_eq_true rfl, Nat.le_of_ble_eq_true rfl⟩) rfl hl.1 (Nat.le_of_ble_eq_true rfl) dX0_takeOver_10 ⟨Nat.le_of_ble_eq_true rfl, Nat.le_of_ble_eq_true rfl⟩ rfl ?_
    refine lv_if_ne (tgt := 21) hx hb dX0_takeOver_13 (by decide) (fun c13 => ?_) (fun c13 => ?_)
    · have c13 : ¬ il_bad p1 = 0 := c13
      refine lv_iconst (v := (-1)) hx hb dX0_takeOver_21 (by decide) ?_
      exact il_retiM hx hb hr hlocks dX0_takeOver_22 hQ hK hP hD hS (by rw [il_takeOver, if_pos c5, if_neg c13]) (by rw [il_takeOverR, if_pos c5, if_neg c13])
    · have c13 : il_bad p1 = 0 := c13
      obtain ⟨k, hk12, rfl⟩ := il_bad_in c13
      refine lv_iload_n hx hb dX0_takeOver_16 rfl (lv_at hl 1 rfl) ?_
      refine lv_iload_n hx hb dX0_takeOver_17 rfl (lv_at hl 2 rfl) ?_
      refine lv_icmp_ne (tgt := 23) hx hb dX0_takeOver_18 (by decide) (fun c18 => ?_) (fun c18 => ?_)
      · have c18 : ¬ nI b = nI k := c18
        refine lv_iconst (v := 0) hx hb dX0_takeOver_23 (by decide) ?_
        refine lv_istore_n (lv' := [(3, .int 0), (0, .ref h0), (1, .int (nI b)), (2, .int (nI k))]) hx hb dX0_takeOver_24 rfl hl (by decide) rfl (fun ls hl => ?_)
        refine lv_iconst (v := 0) hx hb dX0_takeOver_25 (by decide) ?_
        refine lv_istore (lv' := [(4, .int 0), (3, .int 0), (0, .ref h0), (1, .int (nI b)), (2, .int (nI k))]) hx hb dX0_takeOver_26 hl (by decide) rfl (fun ls hl => ?_)
        have L28 : ∀ (n28 : Nat) (i : Nat) (to1 : il_F) (fr1 : il_F) (lv1 : il_F) (x3 : Int32), 13 ≤ i + n28 → i ≤ 12 → (x3, to1, fr1, lv1) = il_tkL us se b k i (to, fr, lv) → ∀ (H : Heap) (locs : List Loc), va_P (dC, dI) vwCl (WX h0 q1 q2 q3 q4 q5 d to1 fr1 us se lv1) H → va_D A (WX h0 q1 q2 q3 q4 q5 d to1 fr1 us se lv1) → va_S A s.heap H locs → ∀ ls : Array Slot, lv_has ls 5 [(0, .ref h0), (1, .int (nI b)), (2, .int (nI k)), (3, .int x3), (4, .int (nI i))] → W p l e (headSpec wsX0_takeOver rmX0_takeOver).room s m args below meth c H locs 0 0 Q (F0 m 28 ls []) := by
          intro n28
          induction n28 with
          | zero =>
            intro i to1 fr1 lv1 x3 hfu hi e1
            exact absurd hfu (by omega)
          | succ n28 ih28 =>
            intro i to1 fr1 lv1 x3 hfu hi e1 H locs hP hD hS ls hl
            refine lv_iload hx hb dX0_takeOver_28 (lv_at hl 4 rfl) ?_
            refine lv_bipush (v := 12) hx hb dX0_takeOver_30 (by decide) ?_
            refine lv_icmp_ge (tgt := 86) hx hb dX0_takeOver_32 (by decide) (fun c32 => ?_) (fun c32 => ?_)
            · have c32 : 12 ≤ nI i := c32
              have h32 : 12 ≤ i := il_ge (N := 12) (i := i) c32 (by omega) (by omega)
              refine lv_iload_n hx hb dX0_takeOver_86 rfl (lv_at hl 3 rfl) ?_
              exact il_retiM hx hb hr hlocks dX0_takeOver_87 hQ hK hP hD hS (by have e9 := e1; rw [show i = 12 by omega] at e9; rw [il_takeOver, if_pos c5, if_pos c13, if_neg c18, il_nat_nI (i := b) (by omega), il_nat_nI (i := k) (by omega), ← e9]) (by have e9 := e1; rw [show i = 12 by omega] at e9; rw [il_takeOverR, if_pos c5, if_pos c13, if_neg c18, il_nat_nI (i := b) (by omega), il_nat_nI (i := k) (by omega), ← e9])
            · have c32 : ¬ 12 ≤ nI i := c32
              have h32 : i < 12 := il_nge (N := 12) (i := i) c32 (by omega)
              refine lv_aload_n hx hb dX0_takeOver_35 rfl (lv_at hl 0 rfl) ?_
              refine va_get (D := (dC, dI)) (ci := 0) (v := .ref q1) (C := RX0) (T := TX0) (N := 5) hx hb hts in_X0 hown hK hP 0 rfl rfl 0 (by decide) (hts _ q30) (fun _ h9 => h9) rfl dX0_takeOver_36 ?_
              refine lv_iload_n hx hb dX0_takeOver_39 rfl (lv_at hl 2 rfl) ?_
              refine il_ld hx hb hK hP 1 0 rfl rfl hk12 (by decide) dX0_takeOver_40 ?_
              refine lv_iload hx hb dX0_takeOver_41 (lv_at hl 4 rfl) ?_
              refine lv_ishr hx hb dX0_takeOver_43 ?_
              refine lv_iconst (v := 1) hx hb dX0_takeOver_44 (by decide) ?_
              refine lv_iand hx hb dX0_takeOver_45 ?_
              refine lv_iconst (v := 1) hx hb dX0_takeOver_46 (by decide) ?_
              refine lv_icmp_ne (tgt := 80) hx hb dX0_takeOver_47 (by decide) (fun c47 => ?_) (fun c47 => ?_)
              · have c47 : ¬ il_b (to1 k) i = 1 := c47
                refine lv_iinc (v := nI (i + 1)) (lv' := [(4, .int (nI (i + 1))), (0, .ref h0), (1, .int (nI b)), (2, .int (nI k)), (3, .int x3)]) hx hb dX0_takeOver_80 hl (k := 4) rfl (nI_1 i) (by decide) rfl (fun ls hl => ?_)
                refine lv_goto (tgt := 28) hx hb dX0_takeOver_83 (by decide) ?_
                exact ih28 (i + 1) to1 fr1 lv1 x3 (by omega) (by omega) (by rw [il_tkL, il_up_s]; show _ = il_tkS us se b k i (il_tkL us se b k i (to, fr, lv)).1 (il_tkL us se b k i (to, fr, lv)).2; rw [← e1]; show _ = il_tkS us se b k i x3 (to1, fr1, lv1); rw [il_tkS_f c47]) _ _ hP hD hS ls (lv_sub hl [1, 2, 3, 4, 0] rfl)
              · have c47 : il_b (to1 k) i = 1 := c47
                refine lv_aload_n hx hb dX0_takeOver_50 rfl (lv_at hl 0 rfl) ?_
                refine lv_iload_n hx hb dX0_takeOver_51 rfl (lv_at hl 2 rfl) ?_
                refine lv_iload hx hb dX0_takeOver_52 (lv_at hl 4 rfl) ?_
                refine il_callMv (As := [.int (nI k), .int (nI i)]) (rest := []) (ws := WX h0 q1 q2 q3 q4 q5 d to1 fr1 us se lv1) (wr := []) (ws1 := WX h0 q1 q2 q3 q4 q5 d ((il_part us se k i (to1, fr1, lv1)).1) ((il_part us se k i (to1, fr1, lv1)).2.1) us se ((il_part us se k i (to1, fr1, lv1)).2.2)) hF hK hP hD hS hA [0, 1, 2, 3, 4, 5] [] rfl rfl (by decide) (by decide) (by decide) hP 0 rfl rfl (metX0_part l dC dI h0 q1 q2 q3 q4 q5 d _ to1 fr1 us se lv1 k hk12 i h32) (cwV 2 hts (lw_V q71 q73 qs5 q20 q74) rfl rfl rfl (by decide +kernel) ⟨Nat.le_of_ble_eq_true rfl, Nat.le_of_ble_eq_true rfl⟩) rfl hl.1 (Nat.le_of_ble_eq_true rfl) dX0_takeOver_54 ⟨Nat.le_of_ble_eq_true rfl, Nat.le_of_ble_eq_true rfl⟩ rfl (fun H locs hP hD hS => ?_)
                have hP : va_P (dC, dI) vwCl (WX h0 q1 q2 q3 q4 q5 d ((il_part us se k i (to1, fr1, lv1)).1) ((il_part us se k i (to1, fr1, lv1)).2.1) us se ((il_part us se k i (to1, fr1, lv1)).2.2)) H := hP
                have hD : va_D A (WX h0 q1 q2 q3 q4 q5 d ((il_part us se k i (to1, fr1, lv1)).1) ((il_part us se k i (to1, fr1, lv1)).2.1) us se ((il_part us se k i (to1, fr1, lv1)).2.2)) := hD
                generalize hT54 : il_part us se k i (to1, fr1, lv1) = T54 at hP hD
                obtain ⟨to54, fr54, lv54⟩ := T54
                have hP : va_P (dC, dI) vwCl (WX h0 q1 q2 q3 q4 q5 d to54 fr54 us se lv54) H := hP
                have hD : va_D A (WX h0 q1 q2 q3 q4 q5 d to54 fr54 us se lv54) := hD
                refine lv_iload_n hx hb dX0_takeOver_57 rfl (lv_at hl 3 rfl) ?_
                refine lv_iconst (v := 1) hx hb dX0_takeOver_58 (by decide) ?_
                refine lv_iadd hx hb dX0_takeOver_59 ?_
                refine lv_aload_n hx hb dX0_takeOver_60 rfl (lv_at hl 0 rfl) ?_
                refine va_get (D := (dC, dI)) (ci := 0) (v := .ref q1) (C := RX0) (T := TX0) (N := 5) hx hb hts in_X0 hown hK hP 0 rfl rfl 0 (by decide) (hts _ q30) (fun _ h9 => h9) rfl dX0_takeOver_61 ?_
                refine lv_iload_n hx hb dX0_takeOver_64 rfl (lv_at hl 1 rfl) ?_
                refine il_ld hx hb hK hP 1 0 rfl rfl hb12 (by decide) dX0_takeOver_65 ?_
                refine lv_iload hx hb dX0_takeOver_66 (lv_at hl 4 rfl) ?_
                refine lv_ishr hx hb dX0_takeOver_68 ?_
                refine lv_iconst (v := 1) hx hb dX0_takeOver_69 (by decide) ?_
                refine lv_iand hx hb dX0_takeOver_70 ?_
                refine lv_isub hx hb dX0_takeOver_71 ?_
                refine lv_istore_n (lv' := [(3, .int ((x3 + 1) - (il_b (to54 b) i))), (0, .ref h0), (1, .int (nI b)), (2, .int (nI k)), (4, .int (nI i))]) hx hb dX0_takeOver_72 rfl hl (by decide) rfl (fun ls hl => ?_)
                refine lv_aload_n hx hb dX0_takeOver_73 rfl (lv_at hl 1 rfl) ?_
                refine lv_iload_n hx hb dX0_takeOver_74 rfl (lv_at hl 2 rfl) ?_
                refine lv_iload hx hb dX0_takeOver_75 (lv_at hl 4 rfl) ?_
                refine il_callMv (As := [.int (nI b), .int (nI i)]) (rest := []) (ws := WX h0 q1 q2 q3 q4 q5 d to54 fr54 us se lv54) (wr := []) (ws1 := WX h0 q1 q2 q3 q4 q5 d ((il_join us se b i (to54, fr54, lv54)).1) ((il_join us se b i (to54, fr54, lv54)).2.1) us se ((il_join us se b i (to54, fr54, lv54)).2.2)) hF hK hP hD hS hA [0, 1, 2, 3, 4, 5] [] rfl rfl (by decide) (by decide) (by decide) hP 0 rfl rfl (metX0_join l dC dI h0 q1 q2 q3 q4 q5 d _ to54 fr54 us se lv54 b hb12 i h32) (cwV 2 hts (lw_V q55 q57 qs1 q20 q58) rfl rfl rfl (by decide +kernel) ⟨Nat.le_of_ble_eq_true rfl, Nat.le_of_ble_eq_true rfl⟩) rfl hl.1 (Nat.le_of_ble_eq_true rfl) dX0_takeOver_77 ⟨Nat.le_of_ble_eq_true rfl, Nat.le_of_ble_eq_true rfl⟩ rfl (fun H locs hP hD hS => ?_)
                have hP : va_P (dC, dI) vwCl (WX h0 q1 q2 q3 q4 q5 d ((il_join us se b i (to54, fr54, lv54)).1) ((il_join us se b i (to54, fr54, lv54)).2.1) us se ((il_join us se b i (to54, fr54, lv54)).2.2)) H := hP
                have hD : va_D A (WX h0 q1 q2 q3 q4 q5 d ((il_join us se b i (to54, fr54, lv54)).1) ((il_join us se b i (to54, fr54, lv54)).2.1) us se ((il_join us se b i (to54, fr54, lv54)).2.2)) := hD
                generalize hT77 : il_join us se b i (to54, fr54, lv54) = T77 at hP hD
                obtain ⟨to77, fr77, lv77⟩ := T77
                have hP : va_P (dC, dI) vwCl (WX h0 q1 q2 q3 q4 q5 d to77 fr77 us se lv77) H := hP
                have hD : va_D A (WX h0 q1 q2 q3 q4 q5 d to77 fr77 us se lv77) := hD
                refine lv_iinc (v := nI (i + 1)) (lv' := [(4, .int (nI (i + 1))), (3, .int ((x3 + 1) - (il_b (to54 b) i))), (0, .ref h0), (1, .int (nI b)), (2, .int (nI k))]) hx hb dX0_takeOver_80 hl (k := 4) rfl (nI_1 i) (by decide) rfl (fun ls hl => ?_)
                refine lv_goto (tgt := 28) hx hb dX0_takeOver_83 (by decide) ?_
                exact ih28 (i + 1) to77 fr77 lv77 ((x3 + 1) - (il_b (to54 b) i)) (by omega) (by omega) (by rw [il_tkL, il_up_s]; show _ = il_tkS us se b k i (il_tkL us se b k i (to, fr, lv)).1 (il_tkL us se b k i (to, fr, lv)).2; rw [← e1]; show _ = il_tkS us se b k i x3 (to1, fr1, lv1); rw [il_tkS_t c47, hT54, hT77]) _ _ hP hD hS ls (lv_sub hl [2, 3, 4, 1, 0] rfl)
        exact L28 13 0 to fr lv 0 (by decide) (by decide) rfl _ _ hP hD hS ls (lv_sub hl [2, 3, 4, 1, 0] rfl)
      · have c18 : nI b = nI k := c18
        refine lv_iconst (v := (-1)) hx hb dX0_takeOver_21 (by decide) ?_
        exact il_retiM hx hb hr hlocks dX0_takeOver_22 hQ hK hP hD hS (by rw [il_takeOver, if_pos c5, if_pos c13, if_pos c18]) (by rw [il_takeOverR, if_pos c5, if_pos c13, if_pos c18])
end
section
abbrev wsX0_liveIn : List Cond := ws_ yX0_liveIn cX0_liveIn 2 (some .int)
abbrev rmX0_liveIn : Room := il_rm 1 21
set_option maxHeartbeats 4000000 in
set_option maxRecDepth 100000 in
/-- liveIn(b) -/
theorem metX0_liveIn (l : Launch) (dC : Nat → ClassId) (dI : Nat → Nat → Nat) (h0 q1 q2 q3 q4 q5 : Nat) (d : ClassId) (to fr us se lv : il_F) (p0 : Int32) : Met l yX0_liveIn wsX0_liveIn rmX0_liveIn (il_PR dC dI (WX h0 q1 q2 q3 q4 q5 d to fr us se lv) d [.ref h0, .int p0]) (vp_Si (fun r => r = il_liveIn lv p0)) 0 0 (fun _ => False) := by
  refine Met.ofW (cc := cX0_liveIn) (maxL := 2) (ret := (some .int)) (by decide) rfl ?_
  intro p e s m args below meth c s₁ B hml hv
  obtain ⟨hargs, hP, hK⟩ := hv
  have hx := B.exec
  have hb := B.bytes
  have hr := B.returns
  have hlocks := B.notSynchronized
  have hts : ∀ w ∈ lw_all, w.before args s = true := fun w h => atoms_spec (ws := wsX0_liveIn) B.pre w (List.mem_cons_of_mem _ h)
  have hown : s.vm.findClass RX0 = some m.cls := findClass_of_methodNamed B.named
  have hF : CallFix p m c cX0_liveIn 2 s args lw_all RX0 := ⟨hx, hb, hml, hown, hts⟩
  refine il_entry (n := 2) (vs := [.ref h0, .int p0]) (Nat.le_of_ble_eq_true rfl) hargs (fun ls hl => ?_)
  have hl : lv_has ls 2 [(0, .ref h0), (1, .int p0)] := hl
  generalize hQ : MQ below (vp_Si (fun r => r = il_liveIn lv p0)) args s 0 0 (fun _ => False) = Q
  refine lv_aload_n hx hb dX0_liveIn_0 rfl (lv_at hl 0 rfl) ?_
  refine lv_iload_n hx hb dX0_liveIn_1 rfl (lv_at hl 1 rfl) ?_
  refine il_callR (As := [.int p0]) (rest := []) (v := il_bad p0) hF hK hP 0 rfl rfl (metX0_bad l dC dI h0 q1 q2 q3 q4 q5 d to fr us se lv p0) (cwV 1 hts (lw_V q51 q53 qs0 q20 q54) rfl rfl rfl (by decide +kernel) ⟨Nat.le_of_ble_eq_true rfl, Nat.le_of_ble_eq_true rfl⟩) rfl hl.1 (Nat.le_of_ble_eq_true rfl) dX0_liveIn_2 ⟨Nat.le_of_ble_eq_true rfl, Nat.le_of_ble_eq_true rfl⟩ rfl ?_
  refine lv_if_eq (tgt := 12) hx hb dX0_liveIn_5 (by decide) (fun c5 => ?_) (fun c5 => ?_)
  · have c5 : il_bad p0 = 0 := c5
    obtain ⟨b, hb12, rfl⟩ := il_bad_in c5
    refine lv_aload_n hx hb dX0_liveIn_12 rfl (lv_at hl 0 rfl) ?_
    refine va_get (D := (dC, dI)) (ci := 0) (v := .ref q5) (C := RX0) (T := TX0) (N := 5) hx hb hts in_X0 hown hK hP 0 rfl rfl 4 (by decide) (hts _ q34) (fun _ h9 => h9) rfl dX0_liveIn_13 ?_
    refine lv_iload_n hx hb dX0_liveIn_16 rfl (lv_at hl 1 rfl) ?_
    refine il_ld hx hb hK hP 5 0 rfl rfl hb12 (by decide) dX0_liveIn_17 ?_
    exact il_reti hx hb hr hlocks dX0_liveIn_18 hQ (by rw [il_liveIn, if_pos c5, il_nat_nI (i := b) (by omega)])
  · have c5 : ¬ il_bad p0 = 0 := c5
    refine lv_iconst (v := (-1)) hx hb dX0_liveIn_8 (by decide) ?_
    refine lv_goto (tgt := 18) hx hb dX0_liveIn_9 (by decide) ?_
    exact il_reti hx hb hr hlocks dX0_liveIn_18 hQ (by rw [il_liveIn, if_neg c5])
abbrev wsX0_liveOut : List Cond := ws_ yX0_liveOut cX0_liveOut 2 (some .int)
abbrev rmX0_liveOut : Room := il_rm 1 23
set_option maxHeartbeats 4000000 in
set_option maxRecDepth 100000 in
/-- liveOut(b) -/
theorem metX0_liveOut (l : Launch) (dC : Nat → ClassId) (dI : Nat → Nat → Nat) (h0 q1 q2 q3 q4 q5 : Nat) (d : ClassId) (to fr us se lv : il_F) (p0 : Int32) : Met l yX0_liveOut wsX0_liveOut rmX0_liveOut (il_PR dC dI (WX h0 q1 q2 q3 q4 q5 d to fr us se lv) d [.ref h0, .int p0]) (vp_Si (fun r => r = il_liveOut to lv p0)) 0 0 (fun _ => False) := by
  refine Met.ofW (cc := cX0_liveOut) (maxL := 2) (ret := (some .int)) (by decide) rfl ?_
  intro p e s m args below meth c s₁ B hml hv
  obtain ⟨hargs, hP, hK⟩ := hv
  have hx := B.exec
  have hb := B.bytes
  have hr := B.returns
  have hlocks := B.notSynchronized
  have hts : ∀ w ∈ lw_all, w.before args s = true := fun w h => atoms_spec (ws := wsX0_liveOut) B.pre w (List.mem_cons_of_mem _ h)
  have hown : s.vm.findClass RX0 = some m.cls := findClass_of_methodNamed B.named
  have hF : CallFix p m c cX0_liveOut 2 s args lw_all RX0 := ⟨hx, hb, hml, hown, hts⟩
  refine il_entry (n := 2) (vs := [.ref h0, .int p0]) (Nat.le_of_ble_eq_true rfl) hargs (fun ls hl => ?_)
  have hl : lv_has ls 2 [(0, .ref h0), (1, .int p0)] := hl
  generalize hQ : MQ below (vp_Si (fun r => r = il_liveOut to lv p0)) args s 0 0 (fun _ => False) = Q
  refine lv_aload_n hx hb dX0_liveOut_0 rfl (lv_at hl 0 rfl) ?_
  refine lv_iload_n hx hb dX0_liveOut_1 rfl (lv_at hl 1 rfl) ?_
  refine il_callR (As := [.int p0]) (rest := []) (v := il_bad p0) hF hK hP 0 rfl rfl (metX0_bad l dC dI h0 q1 q2 q3 q4 q5 d to fr us se lv p0) (cwV 1 hts (lw_V q51 q53 qs0 q20 q54) rfl rfl rfl (by decide +kernel) ⟨Nat.le_of_ble_eq_true rfl, Nat.le_of_ble_eq_true rfl⟩) rfl hl.1 (Nat.le_of_ble_eq_true rfl) dX0_liveOut_2 ⟨Nat.le_of_ble_eq_true rfl, Nat.le_of_ble_eq_true rfl⟩ rfl ?_
  refine lv_if_eq (tgt := 12) hx hb dX0_liveOut_5 (by decide) (fun c5 => ?_) (fun c5 => ?_)
  · have c5 : il_bad p0 = 0 := c5
    obtain ⟨b, hb12, rfl⟩ := il_bad_in c5
    refine lv_aload_n hx hb dX0_liveOut_12 rfl (lv_at hl 0 rfl) ?_
    refine lv_iload_n hx hb dX0_liveOut_13 rfl (lv_at hl 1 rfl) ?_
    refine il_callR (As := [.int (nI b)]) (rest := []) (v := il_end (to b) lv) hF hK hP 0 rfl rfl (metX0_atEnd l dC dI h0 q1 q2 q3 q4 q5 d to fr us se lv b hb12) (cwV 1 hts (lw_V q67 q69 qs4 q20 q70) rfl rfl rfl (by decide +kernel) ⟨Nat.le_of_ble_eq_true rfl, Nat.le_of_ble_eq_true rfl⟩) rfl hl.1 (Nat.le_of_ble_eq_true rfl) dX0_liveOut_14 ⟨Nat.le_of_ble_eq_true rfl, Nat.le_of_ble_eq_true rfl⟩ rfl ?_
    exact il_reti hx hb hr hlocks dX0_liveOut_17 hQ (by rw [il_liveOut, if_pos c5, il_nat_nI (i := b) (by omega)])
  · have c5 : ¬ il_bad p0 = 0 := c5
    refine lv_iconst (v := (-1)) hx hb dX0_liveOut_8 (by decide) ?_
    refine lv_goto (tgt := 17) hx hb dX0_liveOut_9 (by decide) ?_
    exact il_reti hx hb hr hlocks dX0_liveOut_17 hQ (by rw [il_liveOut, if_neg c5])
abbrev wsX0_liveBlocks : List Cond := ws_ yX0_liveBlocks cX0_liveBlocks 4 (some .int)
abbrev rmX0_liveBlocks : Room := il_rm 1 21
set_option maxHeartbeats 4000000 in
set_option maxRecDepth 100000 in
/-- liveBlocks(v) -/
theorem metX0_liveBlocks (l : Launch) (dC : Nat → ClassId) (dI : Nat → Nat → Nat) (h0 q1 q2 q3 q4 q5 : Nat) (d : ClassId) (to fr us se lv : il_F) (p0 : Int32) : Met l yX0_liveBlocks wsX0_liveBlocks rmX0_liveBlocks (il_PR dC dI (WX h0 q1 q2 q3 q4 q5 d to fr us se lv) d [.ref h0, .int p0]) (vp_Si (fun r => r = il_liveBlocks lv p0)) 0 0 (fun _ => False) := by
  refine Met.ofW (cc := cX0_liveBlocks) (maxL := 4) (ret := (some .int)) (by decide) rfl ?_
  intro p e s m args below meth c s₁ B hml hv
  obtain ⟨hargs, hP, hK⟩ := hv
  have hx := B.exec
  have hb := B.bytes
  have hr := B.returns
  have hlocks := B.notSynchronized
  have hts : ∀ w ∈ lw_all, w.before args s = true := fun w h => atoms_spec (ws := wsX0_liveBlocks) B.pre w (List.mem_cons_of_mem _ h)
  have hown : s.vm.findClass RX0 = some m.cls := findClass_of_methodNamed B.named
  have hF : CallFix p m c cX0_liveBlocks 4 s args lw_all RX0 := ⟨hx, hb, hml, hown, hts⟩
  refine il_entry (n := 4) (vs := [.ref h0, .int p0]) (Nat.le_of_ble_eq_true rfl) hargs (fun ls hl => ?_)
  have hl : lv_has ls 4 [(0, .ref h0), (1, .int p0)] := hl
  generalize hQ : MQ below (vp_Si (fun r => r = il_liveBlocks lv p0)) args s 0 0 (fun _ => False) = Q
  refine lv_aload_n hx hb dX0_liveBlocks_0 rfl (lv_at hl 0 rfl) ?_
  refine lv_iload_n hx hb dX0_liveBlocks_1 rfl (lv_at hl 1 rfl) ?_
  refine il_callR (As := [.int p0]) (rest := []) (v := il_badV p0) hF hK hP 0 rfl rfl (metX0_badVariable l dC dI h0 q1 q2 q3 q4 q5 d to fr us se lv p0) (cwV 1 hts (lw_V q92 q94 qs8 q20 q95) rfl rfl rfl (by decide +kernel) ⟨Nat.le_of_ble_eq_true rfl, Nat.le_of_ble_eq_true rfl⟩) rfl hl.1 (Nat.le_of_ble_eq_true rfl) dX0_liveBlocks_2 ⟨Nat.le_of_ble_eq_true rfl, Nat.le_of_ble_eq_true rfl⟩ rfl ?_
  refine lv_if_eq (tgt := 10) hx hb dX0_liveBlocks_5 (by decide) (fun c5 => ?_) (fun c5 => ?_)
  · have c5 : il_badV p0 = 0 := c5
    obtain ⟨v, hv20, rfl⟩ := il_badV_in c5
    refine lv_iconst (v := 0) hx hb dX0_liveBlocks_10 (by decide) ?_
    refine lv_istore_n (lv' := [(2, .int 0), (0, .ref h0), (1, .int (nI v))]) hx hb dX0_liveBlocks_11 rfl hl (by decide) rfl (fun ls hl => ?_)
    refine lv_iconst (v := 0) hx hb dX0_liveBlocks_12 (by decide) ?_
    refine lv_istore_n (lv' := [(3, .int 0), (2, .int 0), (0, .ref h0), (1, .int (nI v))]) hx hb dX0_liveBlocks_13 rfl hl (by decide) rfl (fun ls hl => ?_)
    have L14 : ∀ (n14 : Nat) (i : Nat) (x2 : Int32), 13 ≤ i + n14 → i ≤ 12 → x2 = il_up (il_lbS lv v) i 0 → ∀ ls : Array Slot, lv_has ls 4 [(0, .ref h0), (1, .int (nI v)), (2, .int x2), (3, .int (nI i))] → W p l e (headSpec wsX0_liveBlocks rmX0_liveBlocks).room s m args below meth c s.heap [] 0 0 Q (F0 m 14 ls []) := by
      intro n14
      induction n14 with
      | zero =>
        intro i x2 hfu hi e2
        exact absurd hfu (by omega)
      | succ n14 ih14 =>
        intro i x2 hfu hi e2 ls hl
        refine lv_iload_n hx hb dX0_liveBlocks_14 rfl (lv_at hl 3 rfl) ?_
        refine lv_bipush (v := 12) hx hb dX0_liveBlocks_15 (by decide) ?_
        refine lv_icmp_ge (tgt := 46) hx hb dX0_liveBlocks_17 (by decide) (fun c17 => ?_) (fun c17 => ?_)
        · have c17 : 12 ≤ nI i := c17
          have h17 : 12 ≤ i := il_ge (N := 12) (i := i) c17 (by omega) (by omega)
          refine lv_iload_n hx hb dX0_liveBlocks_46 rfl (lv_at hl 2 rfl) ?_
          exact il_reti hx hb hr hlocks dX0_liveBlocks_47 hQ (by rw [il_liveBlocks, if_pos c5, il_nat_nI (i := v) (by omega), e2, show i = 12 by omega])
        · have c17 : ¬ 12 ≤ nI i := c17
          have h17 : i < 12 := il_nge (N := 12) (i := i) c17 (by omega)
          refine lv_aload_n hx hb dX0_liveBlocks_20 rfl (lv_at hl 0 rfl) ?_
          refine va_get (D := (dC, dI)) (ci := 0) (v := .ref q5) (C := RX0) (T := TX0) (N := 5) hx hb hts in_X0 hown hK hP 0 rfl rfl 4 (by decide) (hts _ q34) (fun _ h9 => h9) rfl dX0_liveBlocks_21 ?_
          refine lv_iload_n hx hb dX0_liveBlocks_24 rfl (lv_at hl 3 rfl) ?_
          refine il_ld hx hb hK hP 5 0 rfl rfl h17 (by decide) dX0_liveBlocks_25 ?_
          refine lv_iload_n hx hb dX0_liveBlocks_26 rfl (lv_at hl 1 rfl) ?_
          refine lv_ishr hx hb dX0_liveBlocks_27 ?_
          refine lv_iconst (v := 1) hx hb dX0_liveBlocks_28 (by decide) ?_
          refine lv_iand hx hb dX0_liveBlocks_29 ?_
          refine lv_iconst (v := 1) hx hb dX0_liveBlocks_30 (by decide) ?_
          refine lv_icmp_ne (tgt := 40) hx hb dX0_liveBlocks_31 (by decide) (fun c31 => ?_) (fun c31 => ?_)
          · have c31 : ¬ il_b (lv i) v = 1 := c31
            refine lv_iinc (v := nI (i + 1)) (lv' := [(3, .int (nI (i + 1))), (0, .ref h0), (1, .int (nI v)), (2, .int x2)]) hx hb dX0_liveBlocks_40 hl (k := 3) rfl (nI_1 i) (by decide) rfl (fun ls hl => ?_)
            refine lv_goto (tgt := 14) hx hb dX0_liveBlocks_43 (by decide) ?_
            exact ih14 (i + 1) x2 (by omega) (by omega) (by rw [il_up_s, ← e2, il_lbS, if_neg c31]) ls (lv_sub hl [1, 2, 3, 0] rfl)
          · have c31 : il_b (lv i) v = 1 := c31
            refine lv_iload_n hx hb dX0_liveBlocks_34 rfl (lv_at hl 2 rfl) ?_
            refine lv_iconst (v := 1) hx hb dX0_liveBlocks_35 (by decide) ?_
            refine lv_iload_n hx hb dX0_liveBlocks_36 rfl (lv_at hl 3 rfl) ?_
            refine lv_ishl hx hb dX0_liveBlocks_37 ?_
            refine lv_ior hx hb dX0_liveBlocks_38 ?_
            refine lv_istore_n (lv' := [(2, .int (x2 ||| (il_o i))), (0, .ref h0), (1, .int (nI v)), (3, .int (nI i))]) hx hb dX0_liveBlocks_39 rfl hl (by decide) rfl (fun ls hl => ?_)
            refine lv_iinc (v := nI (i + 1)) (lv' := [(3, .int (nI (i + 1))), (2, .int (x2 ||| (il_o i))), (0, .ref h0), (1, .int (nI v))]) hx hb dX0_liveBlocks_40 hl (k := 3) rfl (nI_1 i) (by decide) rfl (fun ls hl => ?_)
            refine lv_goto (tgt := 14) hx hb dX0_liveBlocks_43 (by decide) ?_
            exact ih14 (i + 1) (x2 ||| (il_o i)) (by omega) (by omega) (by rw [il_up_s, ← e2, il_lbS, if_pos c31]) ls (lv_sub hl [2, 3, 1, 0] rfl)
    exact L14 13 0 0 (by decide) (by decide) rfl ls (lv_sub hl [2, 3, 1, 0] rfl)
  · have c5 : ¬ il_badV p0 = 0 := c5
    refine lv_iconst (v := (-1)) hx hb dX0_liveBlocks_8 (by decide) ?_
    exact il_reti hx hb hr hlocks dX0_liveBlocks_9 hQ (by rw [il_liveBlocks, if_neg c5])
abbrev wsX0_idleSets : List Cond := ws_ yX0_idleSets cX0_idleSets 5 (some .int)
abbrev rmX0_idleSets : Room := il_rm 1 23
set_option maxHeartbeats 4000000 in
set_option maxRecDepth 100000 in
/-- idleSets() -/
theorem metX0_idleSets (l : Launch) (dC : Nat → ClassId) (dI : Nat → Nat → Nat) (h0 q1 q2 q3 q4 q5 : Nat) (d : ClassId) (to fr us se lv : il_F) : Met l yX0_idleSets wsX0_idleSets rmX0_idleSets (il_PR dC dI (WX h0 q1 q2 q3 q4 q5 d to fr us se lv) d [.ref h0]) (vp_Si (fun r => r = il_idle to se lv)) 0 0 (fun _ => False) := by
  refine Met.ofW (cc := cX0_idleSets) (maxL := 5) (ret := (some .int)) (by decide) rfl ?_
  intro p e s m args below meth c s₁ B hml hv
  obtain ⟨hargs, hP, hK⟩ := hv
  have hx := B.exec
  have hb := B.bytes
  have hr := B.returns
  have hlocks := B.notSynchronized
  have hts : ∀ w ∈ lw_all, w.before args s = true := fun w h => atoms_spec (ws := wsX0_idleSets) B.pre w (List.mem_cons_of_mem _ h)
  have hown : s.vm.findClass RX0 = some m.cls := findClass_of_methodNamed B.named
  have hF : CallFix p m c cX0_idleSets 5 s args lw_all RX0 := ⟨hx, hb, hml, hown, hts⟩
  refine il_entry (n := 5) (vs := [.ref h0]) (Nat.le_of_ble_eq_true rfl) hargs (fun ls hl => ?_)
  have hl : lv_has ls 5 [(0, .ref h0)] := hl
  generalize hQ : MQ below (vp_Si (fun r => r = il_idle to se lv)) args s 0 0 (fun _ => False) = Q
  refine lv_iconst (v := 0) hx hb dX0_idleSets_0 (by decide) ?_
  refine lv_istore_n (lv' := [(1, .int 0), (0, .ref h0)]) hx hb dX0_idleSets_1 rfl hl (by decide) rfl (fun ls hl => ?_)
  refine lv_iconst (v := 0) hx hb dX0_idleSets_2 (by decide) ?_
  refine lv_istore_n (lv' := [(2, .int 0), (1, .int 0), (0, .ref h0)]) hx hb dX0_idleSets_3 rfl hl (by decide) rfl (fun ls hl => ?_)
  have L4 : ∀ (n4 : Nat) (i : Nat) (x1 : Int32), 13 ≤ i + n4 → i ≤ 12 → x1 = il_up (il_idS to se lv) i 0 → ∀ ls : Array Slot, lv_has ls 5 [(0, .ref h0), (1, .int x1), (2, .int (nI i))] → W p l e (headSpec wsX0_idleSets rmX0_idleSets).room s m args below meth c s.heap [] 0 0 Q (F0 m 4 ls []) := by
    intro n4
    induction n4 with
    | zero =>
      intro i x1 hfu hi e1
      exact absurd hfu (by omega)
    | succ n4 ih4 =>
      intro i x1 hfu hi e1 ls hl
      refine lv_iload_n hx hb dX0_idleSets_4 rfl (lv_at hl 2 rfl) ?_
      refine lv_bipush (v := 12) hx hb dX0_idleSets_5 (by decide) ?_
      refine lv_icmp_ge (tgt := 43) hx hb dX0_idleSets_7 (by decide) (fun c7 => ?_) (fun c7 => ?_)
      · have c7 : 12 ≤ nI i := c7
        have h7 : 12 ≤ i := il_ge (N := 12) (i := i) c7 (by omega) (by omega)
        refine lv_iload_n hx hb dX0_idleSets_43 rfl (lv_at hl 1 rfl) ?_
        exact il_reti hx hb hr hlocks dX0_idleSets_44 hQ (by rw [e1, il_idle, show i = 12 by omega])
      · have c7 : ¬ 12 ≤ nI i := c7
        have h7 : i < 12 := il_nge (N := 12) (i := i) c7 (by omega)
        refine lv_aload_n hx hb dX0_idleSets_10 rfl (lv_at hl 0 rfl) ?_
        refine lv_iload_n hx hb dX0_idleSets_11 rfl (lv_at hl 2 rfl) ?_
        refine il_callR (As := [.int (nI i)]) (rest := []) (v := il_end (to i) lv) hF hK hP 0 rfl rfl (metX0_atEnd l dC dI h0 q1 q2 q3 q4 q5 d to fr us se lv i h7) (cwV 1 hts (lw_V q67 q69 qs4 q20 q70) rfl rfl rfl (by decide +kernel) ⟨Nat.le_of_ble_eq_true rfl, Nat.le_of_ble_eq_true rfl⟩) rfl hl.1 (Nat.le_of_ble_eq_true rfl) dX0_idleSets_12 ⟨Nat.le_of_ble_eq_true rfl, Nat.le_of_ble_eq_true rfl⟩ rfl ?_
        refine lv_istore_n (lv' := [(3, .int (il_end (to i) lv)), (0, .ref h0), (1, .int x1), (2, .int (nI i))]) hx hb dX0_idleSets_15 rfl hl (by decide) rfl (fun ls hl => ?_)
        refine lv_aload_n hx hb dX0_idleSets_16 rfl (lv_at hl 1 rfl) ?_
        refine lv_aload_n hx hb dX0_idleSets_17 rfl (lv_at hl 1 rfl) ?_
        refine va_get (D := (dC, dI)) (ci := 0) (v := .ref q4) (C := RX0) (T := TX0) (N := 5) hx hb hts in_X0 hown hK hP 0 rfl rfl 3 (by decide) (hts _ q33) (fun _ h9 => h9) rfl dX0_idleSets_18 ?_
        refine lv_iload_n hx hb dX0_idleSets_21 rfl (lv_at hl 3 rfl) ?_
        refine il_ld hx hb hK hP 4 0 rfl rfl h7 (by decide) dX0_idleSets_22 ?_
        refine lv_iload_n hx hb dX0_idleSets_23 rfl (lv_at hl 0 rfl) ?_
        refine lv_iconst (v := (-1)) hx hb dX0_idleSets_24 (by decide) ?_
        refine lv_ixor hx hb dX0_idleSets_25 ?_
        refine lv_iand hx hb dX0_idleSets_26 ?_
        refine il_callR (As := [.int ((se i) &&& (il_n (il_end (to i) lv)))]) (rest := []) (v := il_size ((se i) &&& (il_n (il_end (to i) lv)))) hF hK hP 0 rfl rfl (metX0_sizeOf l dC dI h0 q1 q2 q3 q4 q5 d to fr us se lv ((se i) &&& (il_n (il_end (to i) lv)))) (cwV 1 hts (lw_V q132 q134 qs10 q20 q135) rfl rfl rfl (by decide +kernel) ⟨Nat.le_of_ble_eq_true rfl, Nat.le_of_ble_eq_true rfl⟩) rfl hl.1 (Nat.le_of_ble_eq_true rfl) dX0_idleSets_27 ⟨Nat.le_of_ble_eq_true rfl, Nat.le_of_ble_eq_true rfl⟩ rfl ?_
        refine lv_istore (lv' := [(4, .int (il_size ((se i) &&& (il_n (il_end (to i) lv))))), (3, .int (il_end (to i) lv)), (0, .ref h0), (1, .int x1), (2, .int (nI i))]) hx hb dX0_idleSets_30 hl (by decide) rfl (fun ls hl => ?_)
        refine lv_iload_n hx hb dX0_idleSets_32 rfl (lv_at hl 3 rfl) ?_
        refine lv_iload hx hb dX0_idleSets_33 (lv_at hl 0 rfl) ?_
        refine lv_iadd hx hb dX0_idleSets_35 ?_
        refine lv_istore_n (lv' := [(1, .int (x1 + (il_size ((se i) &&& (il_n (il_end (to i) lv)))))), (4, .int (il_size ((se i) &&& (il_n (il_end (to i) lv))))), (3, .int (il_end (to i) lv)), (0, .ref h0), (2, .int (nI i))]) hx hb dX0_idleSets_36 rfl hl (by decide) rfl (fun ls hl => ?_)
        refine lv_iinc (v := nI (i + 1)) (lv' := [(2, .int (nI (i + 1))), (1, .int (x1 + (il_size ((se i) &&& (il_n (il_end (to i) lv)))))), (4, .int (il_size ((se i) &&& (il_n (il_end (to i) lv))))), (3, .int (il_end (to i) lv)), (0, .ref h0)]) hx hb dX0_idleSets_37 hl (k := 4) rfl (nI_1 i) (by decide) rfl (fun ls hl => ?_)
        refine lv_goto (tgt := 4) hx hb dX0_idleSets_40 (by decide) ?_
        exact ih4 (i + 1) (x1 + (il_size ((se i) &&& (il_n (il_end (to i) lv))))) (by omega) (by omega) (by rw [il_up_s, ← e1, il_idS]) ls (lv_sub hl [4, 1, 0] rfl)
  exact L4 13 0 0 (by decide) (by decide) rfl ls (lv_sub hl [2, 1, 0] rfl)
abbrev wsX0_pressure : List Cond := ws_ yX0_pressure cX0_pressure 4 (some .int)
abbrev rmX0_pressure : Room := il_rm 1 23
set_option maxHeartbeats 4000000 in
set_option maxRecDepth 100000 in
/-- pressure() -/
theorem metX0_pressure (l : Launch) (dC : Nat → ClassId) (dI : Nat → Nat → Nat) (h0 q1 q2 q3 q4 q5 : Nat) (d : ClassId) (to fr us se lv : il_F) : Met l yX0_pressure wsX0_pressure rmX0_pressure (il_PR dC dI (WX h0 q1 q2 q3 q4 q5 d to fr us se lv) d [.ref h0]) (vp_Si (fun r => r = il_press lv)) 0 0 (fun _ => False) := by
  refine Met.ofW (cc := cX0_pressure) (maxL := 4) (ret := (some .int)) (by decide) rfl ?_
  intro p e s m args below meth c s₁ B hml hv
  obtain ⟨hargs, hP, hK⟩ := hv
  have hx := B.exec
  have hb := B.bytes
  have hr := B.returns
  have hlocks := B.notSynchronized
  have hts : ∀ w ∈ lw_all, w.before args s = true := fun w h => atoms_spec (ws := wsX0_pressure) B.pre w (List.mem_cons_of_mem _ h)
  have hown : s.vm.findClass RX0 = some m.cls := findClass_of_methodNamed B.named
  have hF : CallFix p m c cX0_pressure 4 s args lw_all RX0 := ⟨hx, hb, hml, hown, hts⟩
  refine il_entry (n := 4) (vs := [.ref h0]) (Nat.le_of_ble_eq_true rfl) hargs (fun ls hl => ?_)
  have hl : lv_has ls 4 [(0, .ref h0)] := hl
  generalize hQ : MQ below (vp_Si (fun r => r = il_press lv)) args s 0 0 (fun _ => False) = Q
  refine lv_iconst (v := 0) hx hb dX0_pressure_0 (by decide) ?_
  refine lv_istore_n (lv' := [(1, .int 0), (0, .ref h0)]) hx hb dX0_pressure_1 rfl hl (by decide) rfl (fun ls hl => ?_)
  refine lv_iconst (v := 0) hx hb dX0_pressure_2 (by decide) ?_
  refine lv_istore_n (lv' := [(2, .int 0), (1, .int 0), (0, .ref h0)]) hx hb dX0_pressure_3 rfl hl (by decide) rfl (fun ls hl => ?_)
  have L4 : ∀ (n4 : Nat) (i : Nat) (x1 : Int32), 13 ≤ i + n4 → i ≤ 12 → x1 = il_up (il_prS lv) i 0 → ∀ ls : Array Slot, lv_has ls 4 [(0, .ref h0), (1, .int x1), (2, .int (nI i))] → W p l e (headSpec wsX0_pressure rmX0_pressure).room s m args below meth c s.heap [] 0 0 Q (F0 m 4 ls []) := by
    intro n4
    induction n4 with
    | zero =>
      intro i x1 hfu hi e1
      exact absurd hfu (by omega)
    | succ n4 ih4 =>
      intro i x1 hfu hi e1 ls hl
      refine lv_iload_n hx hb dX0_pressure_4 rfl (lv_at hl 2 rfl) ?_
      refine lv_bipush (v := 12) hx hb dX0_pressure_5 (by decide) ?_
      refine lv_icmp_ge (tgt := 38) hx hb dX0_pressure_7 (by decide) (fun c7 => ?_) (fun c7 => ?_)
      · have c7 : 12 ≤ nI i := c7
        have h7 : 12 ≤ i := il_ge (N := 12) (i := i) c7 (by omega) (by omega)
        refine lv_iload_n hx hb dX0_pressure_38 rfl (lv_at hl 1 rfl) ?_
        exact il_reti hx hb hr hlocks dX0_pressure_39 hQ (by rw [e1, il_press, show i = 12 by omega])
      · have c7 : ¬ 12 ≤ nI i := c7
        have h7 : i < 12 := il_nge (N := 12) (i := i) c7 (by omega)
        refine lv_aload_n hx hb dX0_pressure_10 rfl (lv_at hl 0 rfl) ?_
        refine lv_aload_n hx hb dX0_pressure_11 rfl (lv_at hl 0 rfl) ?_
        refine va_get (D := (dC, dI)) (ci := 0) (v := .ref q5) (C := RX0) (T := TX0) (N := 5) hx hb hts in_X0 hown hK hP 0 rfl rfl 4 (by decide) (hts _ q34) (fun _ h9 => h9) rfl dX0_pressure_12 ?_
        refine lv_iload_n hx hb dX0_pressure_15 rfl (lv_at hl 2 rfl) ?_
        refine il_ld hx hb hK hP 5 0 rfl rfl h7 (by decide) dX0_pressure_16 ?_
        refine il_callR (As := [.int (lv i)]) (rest := []) (v := il_size (lv i)) hF hK hP 0 rfl rfl (metX0_sizeOf l dC dI h0 q1 q2 q3 q4 q5 d to fr us se lv (lv i)) (cwV 1 hts (lw_V q132 q134 qs10 q20 q135) rfl rfl rfl (by decide +kernel) ⟨Nat.le_of_ble_eq_true rfl, Nat.le_of_ble_eq_true rfl⟩) rfl hl.1 (Nat.le_of_ble_eq_true rfl) dX0_pressure_17 ⟨Nat.le_of_ble_eq_true rfl, Nat.le_of_ble_eq_true rfl⟩ rfl ?_
        refine lv_istore_n (lv' := [(3, .int (il_size (lv i))), (0, .ref h0), (1, .int x1), (2, .int (nI i))]) hx hb dX0_pressure_20 rfl hl (by decide) rfl (fun ls hl => ?_)
        refine lv_iload_n hx hb dX0_pressure_21 rfl (lv_at hl 0 rfl) ?_
        refine lv_iload_n hx hb dX0_pressure_22 rfl (lv_at hl 2 rfl) ?_
        refine lv_icmp_le (tgt := 30) hx hb dX0_pressure_23 (by decide) (fun c23 => ?_) (fun c23 => ?_)
        · have c23 : il_size (lv i) ≤ x1 := c23
          refine lv_iload_n hx hb dX0_pressure_30 rfl (lv_at hl 2 rfl) ?_
          refine lv_istore_n (lv' := [(1, .int x1), (3, .int (il_size (lv i))), (0, .ref h0), (2, .int (nI i))]) hx hb dX0_pressure_31 rfl hl (by decide) rfl (fun ls hl => ?_)
          refine lv_iinc (v := nI (i + 1)) (lv' := [(2, .int (nI (i + 1))), (1, .int x1), (3, .int (il_size (lv i))), (0, .ref h0)]) hx hb dX0_pressure_32 hl (k := 3) rfl (nI_1 i) (by decide) rfl (fun ls hl => ?_)
          refine lv_goto (tgt := 4) hx hb dX0_pressure_35 (by decide) ?_
          exact ih4 (i + 1) x1 (by omega) (by omega) (by rw [il_up_s, ← e1, il_prS, if_pos c23]) ls (lv_sub hl [3, 1, 0] rfl)
        · have c23 : ¬ il_size (lv i) ≤ x1 := c23
          refine lv_iload_n hx hb dX0_pressure_26 rfl (lv_at hl 0 rfl) ?_
          refine lv_goto (tgt := 31) hx hb dX0_pressure_27 (by decide) ?_
          refine lv_istore_n (lv' := [(1, .int (il_size (lv i))), (3, .int (il_size (lv i))), (0, .ref h0), (2, .int (nI i))]) hx hb dX0_pressure_31 rfl hl (by decide) rfl (fun ls hl => ?_)
          refine lv_iinc (v := nI (i + 1)) (lv' := [(2, .int (nI (i + 1))), (1, .int (il_size (lv i))), (3, .int (il_size (lv i))), (0, .ref h0)]) hx hb dX0_pressure_32 hl (k := 3) rfl (nI_1 i) (by decide) rfl (fun ls hl => ?_)
          refine lv_goto (tgt := 4) hx hb dX0_pressure_35 (by decide) ?_
          exact ih4 (i + 1) (il_size (lv i)) (by omega) (by omega) (by rw [il_up_s, ← e1, il_prS, if_neg c23]) ls (lv_sub hl [3, 1, 0] rfl)
  exact L4 13 0 0 (by decide) (by decide) rfl ls (lv_sub hl [2, 1, 0] rfl)
abbrev wsX0_reaching : List Cond := ws_ yX0_reaching cX0_reaching 8 (some .int)
abbrev rmX0_reaching : Room := il_rm 1 21
set_option maxHeartbeats 4000000 in
set_option maxRecDepth 100000 in
/-- reaching(b, v) -/
theorem metX0_reaching (l : Launch) (dC : Nat → ClassId) (dI : Nat → Nat → Nat) (h0 q1 q2 q3 q4 q5 : Nat) (d : ClassId) (to fr us se lv : il_F) (p0 p1 : Int32) : Met l yX0_reaching wsX0_reaching rmX0_reaching (il_PR dC dI (WX h0 q1 q2 q3 q4 q5 d to fr us se lv) d [.ref h0, .int p0, .int p1]) (vp_Si (fun r => r = il_reach fr se p0 p1)) 0 0 (fun _ => False) := by
  refine Met.ofW (cc := cX0_reaching) (maxL := 8) (ret := (some .int)) (by decide) rfl ?_
  intro p e s m args below meth c s₁ B hml hv
  obtain ⟨hargs, hP, hK⟩ := hv
  have hx := B.exec
  have hb := B.bytes
  have hr := B.returns
  have hlocks := B.notSynchronized
  have hts : ∀ w ∈ lw_all, w.before args s = true := fun w h => atoms_spec (ws := wsX0_reaching) B.pre w (List.mem_cons_of_mem _ h)
  have hown : s.vm.findClass RX0 = some m.cls := findClass_of_methodNamed B.named
  have hF : CallFix p m c cX0_reaching 8 s args lw_all RX0 := ⟨hx, hb, hml, hown, hts⟩
  refine il_entry (n := 8) (vs := [.ref h0, .int p0, .int p1]) (Nat.le_of_ble_eq_true rfl) hargs (fun ls hl => ?_)
  have hl : lv_has ls 8 [(0, .ref h0), (1, .int p0), (2, .int p1)] := hl
  generalize hQ : MQ below (vp_Si (fun r => r = il_reach fr se p0 p1)) args s 0 0 (fun _ => False) = Q
  refine lv_aload_n hx hb dX0_reaching_0 rfl (lv_at hl 0 rfl) ?_
  refine lv_iload_n hx hb dX0_reaching_1 rfl (lv_at hl 1 rfl) ?_
  refine il_callR (As := [.int p0]) (rest := []) (v := il_bad p0) hF hK hP 0 rfl rfl (metX0_bad l dC dI h0 q1 q2 q3 q4 q5 d to fr us se lv p0) (cwV 1 hts (lw_V q51 q53 qs0 q20 q54) rfl rfl rfl (by decide +kernel) ⟨Nat.le_of_ble_eq_true rfl, Nat.le_of_ble_eq_true rfl⟩) rfl hl.1 (Nat.le_of_ble_eq_true rfl) dX0_reaching_2 ⟨Nat.le_of_ble_eq_true rfl, Nat.le_of_ble_eq_true rfl⟩ rfl ?_
  refine lv_if_ne (tgt := 16) hx hb dX0_reaching_5 (by decide) (fun c5 => ?_) (fun c5 => ?_)
  · have c5 : ¬ il_bad p0 = 0 := c5
    refine lv_iconst (v := (-1)) hx hb dX0_reaching_16 (by decide) ?_
    exact il_reti hx hb hr hlocks dX0_reaching_17 hQ (by rw [il_reach, if_neg c5])
  · have c5 : il_bad p0 = 0 := c5
    obtain ⟨b, hb12, rfl⟩ := il_bad_in c5
    refine lv_aload_n hx hb dX0_reaching_8 rfl (lv_at hl 0 rfl) ?_
    refine lv_iload_n hx hb dX0_reaching_9 rfl (lv_at hl 2 rfl) ?_
    refine il_callR (As := [.int p1]) (rest := []) (v := il_badV p1) hF hK hP 0 rfl rfl (metX0_badVariable l dC dI h0 q1 q2 q3 q4 q5 d to fr us se lv p1) (cwV 1 hts (lw_V q92 q94 qs8 q20 q95) rfl rfl rfl (by decide +kernel) ⟨Nat.le_of_ble_eq_true rfl, Nat.le_of_ble_eq_true rfl⟩) rfl hl.1 (Nat.le_of_ble_eq_true rfl) dX0_reaching_10 ⟨Nat.le_of_ble_eq_true rfl, Nat.le_of_ble_eq_true rfl⟩ rfl ?_
    refine lv_if_eq (tgt := 18) hx hb dX0_reaching_13 (by decide) (fun c13 => ?_) (fun c13 => ?_)
    · have c13 : il_badV p1 = 0 := c13
      obtain ⟨v, hv20, rfl⟩ := il_badV_in c13
      refine lv_iconst (v := 0) hx hb dX0_reaching_18 (by decide) ?_
      refine lv_istore_n (lv' := [(3, .int 0), (0, .ref h0), (1, .int (nI b)), (2, .int (nI v))]) hx hb dX0_reaching_19 rfl hl (by decide) rfl (fun ls hl => ?_)
      refine lv_aload_n hx hb dX0_reaching_20 rfl (lv_at hl 1 rfl) ?_
      refine va_get (D := (dC, dI)) (ci := 0) (v := .ref q2) (C := RX0) (T := TX0) (N := 5) hx hb hts in_X0 hown hK hP 0 rfl rfl 1 (by decide) (hts _ q31) (fun _ h9 => h9) rfl dX0_reaching_21 ?_
      refine lv_iload_n hx hb dX0_reaching_24 rfl (lv_at hl 2 rfl) ?_
      refine il_ld hx hb hK hP 2 0 rfl rfl hb12 (by decide) dX0_reaching_25 ?_
      refine lv_istore (lv' := [(4, .int (fr b)), (3, .int 0), (0, .ref h0), (1, .int (nI b)), (2, .int (nI v))]) hx hb dX0_reaching_26 hl (by decide) rfl (fun ls hl => ?_)
      refine lv_iconst (v := 0) hx hb dX0_reaching_28 (by decide) ?_
      refine lv_istore (lv' := [(5, .int 0), (4, .int (fr b)), (3, .int 0), (0, .ref h0), (1, .int (nI b)), (2, .int (nI v))]) hx hb dX0_reaching_29 hl (by decide) rfl (fun ls hl => ?_)
      have L31 : ∀ (n31 : Nat) (r : Nat) (x3 : Int32) (x4 : Int32), 14 ≤ r + n31 → r ≤ 13 → il_rcW fr se v (13 - r) x3 x4 = il_rcW fr se v 13 0 (fr b) → ∀ ls : Array Slot, lv_has ls 8 [(0, .ref h0), (1, .int (nI b)), (2, .int (nI v)), (3, .int x3), (4, .int x4), (5, .int (nI r))] → W p l e (headSpec wsX0_reaching rmX0_reaching).room s m args below meth c s.heap [] 0 0 Q (F0 m 31 ls []) := by
        intro n31
        induction n31 with
        | zero =>
          intro r x3 x4 hfu hr1 er
          exact absurd hfu (by omega)
        | succ n31 ih31 =>
          intro r x3 x4 hfu hr1 er ls hl
          refine lv_iload hx hb dX0_reaching_31 (lv_at hl 5 rfl) ?_
          refine lv_bipush (v := 12) hx hb dX0_reaching_33 (by decide) ?_
          refine lv_icmp_gt (tgt := 118) hx hb dX0_reaching_35 (by decide) (fun c35 => ?_) (fun c35 => ?_)
          · have c35 : 12 < nI r := c35
            have h35 : 12 < r := il_gt (N := 12) (i := r) c35 (by omega) (by omega)
            refine lv_iconst (v := 0) hx hb dX0_reaching_118 (by decide) ?_
            refine lv_istore (lv' := [(5, .int 0), (0, .ref h0), (1, .int (nI b)), (2, .int (nI v)), (3, .int x3), (4, .int x4)]) hx hb dX0_reaching_119 hl (by decide) rfl (fun ls hl => ?_)
            refine lv_iconst (v := 0) hx hb dX0_reaching_121 (by decide) ?_
            refine lv_istore (lv' := [(6, .int 0), (5, .int 0), (0, .ref h0), (1, .int (nI b)), (2, .int (nI v)), (3, .int x3), (4, .int x4)]) hx hb dX0_reaching_122 hl (by decide) rfl (fun ls hl => ?_)
            have L124 : ∀ (n124 : Nat) (j : Nat) (x5 : Int32), 13 ≤ j + n124 → j ≤ 12 → x5 = il_up (il_reS se v x3) j 0 → ∀ ls : Array Slot, lv_has ls 8 [(0, .ref h0), (1, .int (nI b)), (2, .int (nI v)), (3, .int x3), (5, .int x5), (6, .int (nI j))] → W p l e (headSpec wsX0_reaching rmX0_reaching).room s m args below meth c s.heap [] 0 0 Q (F0 m 124 ls []) := by
              intro n124
              induction n124 with
              | zero =>
                intro j x5 hfu hj e5
                exact absurd hfu (by omega)
              | succ n124 ih124 =>
                intro j x5 hfu hj e5 ls hl
                refine lv_iload hx hb dX0_reaching_124 (lv_at hl 5 rfl) ?_
                refine lv_bipush (v := 12) hx hb dX0_reaching_126 (by decide) ?_
                refine lv_icmp_ge (tgt := 171) hx hb dX0_reaching_128 (by decide) (fun c128 => ?_) (fun c128 => ?_)
                · have c128 : 12 ≤ nI j := c128
                  have h128 : 12 ≤ j := il_ge (N := 12) (i := j) c128 (by omega) (by omega)
                  refine lv_iload hx hb dX0_reaching_171 (lv_at hl 4 rfl) ?_
                  exact il_reti hx hb hr hlocks dX0_reaching_173 hQ (by rw [il_reach, if_pos c5, if_pos c13, il_nat_nI (i := b) (by omega), il_nat_nI (i := v) (by omega), il_reF, e5, show j = 12 by omega, ← er, show 13 - r = 0 by omega, il_rcW_z])
                · have c128 : ¬ 12 ≤ nI j := c128
                  have h128 : j < 12 := il_nge (N := 12) (i := j) c128 (by omega)
                  refine lv_iload_n hx hb dX0_reaching_131 rfl (lv_at hl 3 rfl) ?_
                  refine lv_iload hx hb dX0_reaching_132 (lv_at hl 5 rfl) ?_
                  refine lv_ishr hx hb dX0_reaching_134 ?_
                  refine lv_iconst (v := 1) hx hb dX0_reaching_135 (by decide) ?_
                  refine lv_iand hx hb dX0_reaching_136 ?_
                  refine lv_iconst (v := 1) hx hb dX0_reaching_137 (by decide) ?_
                  refine lv_icmp_ne (tgt := 165) hx hb dX0_reaching_138 (by decide) (fun c138 => ?_) (fun c138 => ?_)
                  · have c138 : ¬ il_b x3 j = 1 := c138
                    refine lv_iinc (v := nI (j + 1)) (lv' := [(6, .int (nI (j + 1))), (0, .ref h0), (1, .int (nI b)), (2, .int (nI v)), (3, .int x3), (5, .int x5)]) hx hb dX0_reaching_165 hl (k := 5) rfl (nI_1 j) (by decide) rfl (fun ls hl => ?_)
                    refine lv_goto (tgt := 124) hx hb dX0_reaching_168 (by decide) ?_
                    exact ih124 (j + 1) x5 (by omega) (by omega) (by rw [il_up_s, ← e5, il_reS, if_neg c138]) ls (lv_sub hl [1, 2, 3, 4, 5, 0] rfl)
                  · have c138 : il_b x3 j = 1 := c138
                    refine lv_aload_n hx hb dX0_reaching_141 rfl (lv_at hl 0 rfl) ?_
                    refine va_get (D := (dC, dI)) (ci := 0) (v := .ref q4) (C := RX0) (T := TX0) (N := 5) hx hb hts in_X0 hown hK hP 0 rfl rfl 3 (by decide) (hts _ q33) (fun _ h9 => h9) rfl dX0_reaching_142 ?_
                    refine lv_iload hx hb dX0_reaching_145 (lv_at hl 5 rfl) ?_
                    refine il_ld hx hb hK hP 4 0 rfl rfl h128 (by decide) dX0_reaching_147 ?_
                    refine lv_iload_n hx hb dX0_reaching_148 rfl (lv_at hl 2 rfl) ?_
                    refine lv_ishr hx hb dX0_reaching_149 ?_
                    refine lv_iconst (v := 1) hx hb dX0_reaching_150 (by decide) ?_
                    refine lv_iand hx hb dX0_reaching_151 ?_
                    refine lv_iconst (v := 1) hx hb dX0_reaching_152 (by decide) ?_
                    refine lv_icmp_ne (tgt := 165) hx hb dX0_reaching_153 (by decide) (fun c153 => ?_) (fun c153 => ?_)
                    · have c153 : ¬ il_b (se j) v = 1 := c153
                      refine lv_iinc (v := nI (j + 1)) (lv' := [(6, .int (nI (j + 1))), (0, .ref h0), (1, .int (nI b)), (2, .int (nI v)), (3, .int x3), (5, .int x5)]) hx hb dX0_reaching_165 hl (k := 5) rfl (nI_1 j) (by decide) rfl (fun ls hl => ?_)
                      refine lv_goto (tgt := 124) hx hb dX0_reaching_168 (by decide) ?_
                      exact ih124 (j + 1) x5 (by omega) (by omega) (by rw [il_up_s, ← e5, il_reS, if_pos c138, if_neg c153]) ls (lv_sub hl [1, 2, 3, 4, 5, 0] rfl)
                    · have c153 : il_b (se j) v = 1 := c153
                      refine lv_iload hx hb dX0_reaching_156 (lv_at hl 4 rfl) ?_
                      refine lv_iconst (v := 1) hx hb dX0_reaching_158 (by decide) ?_
                      refine lv_iload hx hb dX0_reaching_159 (lv_at hl 5 rfl) ?_
                      refine lv_ishl hx hb dX0_reaching_161 ?_
                      refine lv_ior hx hb dX0_reaching_162 ?_
                      refine lv_istore (lv' := [(5, .int (x5 ||| (il_o j))), (0, .ref h0), (1, .int (nI b)), (2, .int (nI v)), (3, .int x3), (6, .int (nI j))]) hx hb dX0_reaching_163 hl (by decide) rfl (fun ls hl => ?_)
                      refine lv_iinc (v := nI (j + 1)) (lv' := [(6, .int (nI (j + 1))), (5, .int (x5 ||| (il_o j))), (0, .ref h0), (1, .int (nI b)), (2, .int (nI v)), (3, .int x3)]) hx hb dX0_reaching_165 hl (k := 5) rfl (nI_1 j) (by decide) rfl (fun ls hl => ?_)
                      refine lv_goto (tgt := 124) hx hb dX0_reaching_168 (by decide) ?_
                      exact ih124 (j + 1) (x5 ||| (il_o j)) (by omega) (by omega) (by rw [il_up_s, ← e5, il_reS, if_pos c138, if_pos c153]) ls (lv_sub hl [2, 3, 4, 5, 1, 0] rfl)
            exact L124 13 0 0 (by decide) (by decide) rfl ls (lv_sub hl [2, 3, 4, 5, 1, 0] rfl)
          · have c35 : ¬ 12 < nI r := c35
            have h35 : r ≤ 12 := il_ngt (N := 12) (i := r) c35 (by omega) (by omega)
            refine lv_iload hx hb dX0_reaching_38 (lv_at hl 4 rfl) ?_
            refine lv_if_eq (tgt := 118) hx hb dX0_reaching_40 (by decide) (fun c40 => ?_) (fun c40 => ?_)
            · have c40 : x4 = 0 := c40
              refine lv_iconst (v := 0) hx hb dX0_reaching_118 (by decide) ?_
              refine lv_istore (lv' := [(5, .int 0), (0, .ref h0), (1, .int (nI b)), (2, .int (nI v)), (3, .int x3), (4, .int x4)]) hx hb dX0_reaching_119 hl (by decide) rfl (fun ls hl => ?_)
              refine lv_iconst (v := 0) hx hb dX0_reaching_121 (by decide) ?_
              refine lv_istore (lv' := [(6, .int 0), (5, .int 0), (0, .ref h0), (1, .int (nI b)), (2, .int (nI v)), (3, .int x3), (4, .int x4)]) hx hb dX0_reaching_122 hl (by decide) rfl (fun ls hl => ?_)
              have L124 : ∀ (n124 : Nat) (j : Nat) (x5 : Int32), 13 ≤ j + n124 → j ≤ 12 → x5 = il_up (il_reS se v x3) j 0 → ∀ ls : Array Slot, lv_has ls 8 [(0, .ref h0), (1, .int (nI b)), (2, .int (nI v)), (3, .int x3), (5, .int x5), (6, .int (nI j))] → W p l e (headSpec wsX0_reaching rmX0_reaching).room s m args below meth c s.heap [] 0 0 Q (F0 m 124 ls []) := by
                intro n124
                induction n124 with
                | zero =>
                  intro j x5 hfu hj e5
                  exact absurd hfu (by omega)
                | succ n124 ih124 =>
                  intro j x5 hfu hj e5 ls hl
                  refine lv_iload hx hb dX0_reaching_124 (lv_at hl 5 rfl) ?_
                  refine lv_bipush (v := 12) hx hb dX0_reaching_126 (by decide) ?_
                  refine lv_icmp_ge (tgt := 171) hx hb dX0_reaching_128 (by decide) (fun c128 => ?_) (fun c128 => ?_)
                  · have c128 : 12 ≤ nI j := c128
                    have h128 : 12 ≤ j := il_ge (N := 12) (i := j) c128 (by omega) (by omega)
                    refine lv_iload hx hb dX0_reaching_171 (lv_at hl 4 rfl) ?_
                    exact il_reti hx hb hr hlocks dX0_reaching_173 hQ (by rw [il_reach, if_pos c5, if_pos c13, il_nat_nI (i := b) (by omega), il_nat_nI (i := v) (by omega), il_reF, e5, show j = 12 by omega, ← er, il_rcW_0 c40])
                  · have c128 : ¬ 12 ≤ nI j := c128
                    have h128 : j < 12 := il_nge (N := 12) (i := j) c128 (by omega)
                    refine lv_iload_n hx hb dX0_reaching_131 rfl (lv_at hl 3 rfl) ?_
                    refine lv_iload hx hb dX0_reaching_132 (lv_at hl 5 rfl) ?_
                    refine lv_ishr hx hb dX0_reaching_134 ?_
                    refine lv_iconst (v := 1) hx hb dX0_reaching_135 (by decide) ?_
                    refine lv_iand hx hb dX0_reaching_136 ?_
                    refine lv_iconst (v := 1) hx hb dX0_reaching_137 (by decide) ?_
                    refine lv_icmp_ne (tgt := 165) hx hb dX0_reaching_138 (by decide) (fun c138 => ?_) (fun c138 => ?_)
                    · have c138 : ¬ il_b x3 j = 1 := c138
                      refine lv_iinc (v := nI (j + 1)) (lv' := [(6, .int (nI (j + 1))), (0, .ref h0), (1, .int (nI b)), (2, .int (nI v)), (3, .int x3), (5, .int x5)]) hx hb dX0_reaching_165 hl (k := 5) rfl (nI_1 j) (by decide) rfl (fun ls hl => ?_)
                      refine lv_goto (tgt := 124) hx hb dX0_reaching_168 (by decide) ?_
                      exact ih124 (j + 1) x5 (by omega) (by omega) (by rw [il_up_s, ← e5, il_reS, if_neg c138]) ls (lv_sub hl [1, 2, 3, 4, 5, 0] rfl)
                    · have c138 : il_b x3 j = 1 := c138
                      refine lv_aload_n hx hb dX0_reaching_141 rfl (lv_at hl 0 rfl) ?_
                      refine va_get (D := (dC, dI)) (ci := 0) (v := .ref q4) (C := RX0) (T := TX0) (N := 5) hx hb hts in_X0 hown hK hP 0 rfl rfl 3 (by decide) (hts _ q33) (fun _ h9 => h9) rfl dX0_reaching_142 ?_
                      refine lv_iload hx hb dX0_reaching_145 (lv_at hl 5 rfl) ?_
                      refine il_ld hx hb hK hP 4 0 rfl rfl h128 (by decide) dX0_reaching_147 ?_
                      refine lv_iload_n hx hb dX0_reaching_148 rfl (lv_at hl 2 rfl) ?_
                      refine lv_ishr hx hb dX0_reaching_149 ?_
                      refine lv_iconst (v := 1) hx hb dX0_reaching_150 (by decide) ?_
                      refine lv_iand hx hb dX0_reaching_151 ?_
                      refine lv_iconst (v := 1) hx hb dX0_reaching_152 (by decide) ?_
                      refine lv_icmp_ne (tgt := 165) hx hb dX0_reaching_153 (by decide) (fun c153 => ?_) (fun c153 => ?_)
                      · have c153 : ¬ il_b (se j) v = 1 := c153
                        refine lv_iinc (v := nI (j + 1)) (lv' := [(6, .int (nI (j + 1))), (0, .ref h0), (1, .int (nI b)), (2, .int (nI v)), (3, .int x3), (5, .int x5)]) hx hb dX0_reaching_165 hl (k := 5) rfl (nI_1 j) (by decide) rfl (fun ls hl => ?_)
                        refine lv_goto (tgt := 124) hx hb dX0_reaching_168 (by decide) ?_
                        exact ih124 (j + 1) x5 (by omega) (by omega) (by rw [il_up_s, ← e5, il_reS, if_pos c138, if_neg c153]) ls (lv_sub hl [1, 2, 3, 4, 5, 0] rfl)
                      · have c153 : il_b (se j) v = 1 := c153
                        refine lv_iload hx hb dX0_reaching_156 (lv_at hl 4 rfl) ?_
                        refine lv_iconst (v := 1) hx hb dX0_reaching_158 (by decide) ?_
                        refine lv_iload hx hb dX0_reaching_159 (lv_at hl 5 rfl) ?_
                        refine lv_ishl hx hb dX0_reaching_161 ?_
                        refine lv_ior hx hb dX0_reaching_162 ?_
                        refine lv_istore (lv' := [(5, .int (x5 ||| (il_o j))), (0, .ref h0), (1, .int (nI b)), (2, .int (nI v)), (3, .int x3), (6, .int (nI j))]) hx hb dX0_reaching_163 hl (by decide) rfl (fun ls hl => ?_)
                        refine lv_iinc (v := nI (j + 1)) (lv' := [(6, .int (nI (j + 1))), (5, .int (x5 ||| (il_o j))), (0, .ref h0), (1, .int (nI b)), (2, .int (nI v)), (3, .int x3)]) hx hb dX0_reaching_165 hl (k := 5) rfl (nI_1 j) (by decide) rfl (fun ls hl => ?_)
                        refine lv_goto (tgt := 124) hx hb dX0_reaching_168 (by decide) ?_
                        exact ih124 (j + 1) (x5 ||| (il_o j)) (by omega) (by omega) (by rw [il_up_s, ← e5, il_reS, if_pos c138, if_pos c153]) ls (lv_sub hl [2, 3, 4, 5, 1, 0] rfl)
              exact L124 13 0 0 (by decide) (by decide) rfl ls (lv_sub hl [2, 3, 4, 5, 1, 0] rfl)
            · have c40 : ¬ x4 = 0 := c40
              refine lv_iconst (v := 0) hx hb dX0_reaching_43 (by decide) ?_
              refine lv_istore (lv' := [(6, .int 0), (0, .ref h0), (1, .int (nI b)), (2, .int (nI v)), (3, .int x3), (4, .int x4), (5, .int (nI r))]) hx hb dX0_reaching_44 hl (by decide) rfl (fun ls hl => ?_)
              refine lv_iload_n hx hb dX0_reaching_46 rfl (lv_at hl 4 rfl) ?_
              refine lv_iload hx hb dX0_reaching_47 (lv_at hl 5 rfl) ?_
              refine lv_ior hx hb dX0_reaching_49 ?_
              refine lv_istore_n (lv' := [(3, .int (x3 ||| x4)), (6, .int 0), (0, .ref h0), (1, .int (nI b)), (2, .int (nI v)), (4, .int x4), (5, .int (nI r))]) hx hb dX0_reaching_50 rfl hl (by decide) rfl (fun ls hl => ?_)
              refine lv_iconst (v := 0) hx hb dX0_reaching_51 (by decide) ?_
              refine lv_istore (lv' := [(7, .int 0), (3, .int (x3 ||| x4)), (6, .int 0), (0, .ref h0), (1, .int (nI b)), (2, .int (nI v)), (4, .int x4), (5, .int (nI r))]) hx hb dX0_reaching_52 hl (by decide) rfl (fun ls hl => ?_)
              have L54 : ∀ (n54 : Nat) (i : Nat) (x6 : Int32), 13 ≤ i + n54 → i ≤ 12 → x6 = il_up (il_rcS fr se v x4) i 0 → ∀ ls : Array Slot, lv_has ls 8 [(0, .ref h0), (1, .int (nI b)), (2, .int (nI v)), (3, .int (x3 ||| x4)), (4, .int x4), (5, .int (nI r)), (6, .int x6), (7, .int (nI i))] → W p l e (headSpec wsX0_reaching rmX0_reaching).room s m args below meth c s.heap [] 0 0 Q (F0 m 54 ls []) := by
                intro n54
                induction n54 with
                | zero =>
                  intro i x6 hfu hi e6
                  exact absurd hfu (by omega)
                | succ n54 ih54 =>
                  intro i x6 hfu hi e6 ls hl
                  refine lv_iload hx hb dX0_reaching_54 (lv_at hl 7 rfl) ?_
                  refine lv_bipush (v := 12) hx hb dX0_reaching_56 (by decide) ?_
                  refine lv_icmp_ge (tgt := 104) hx hb dX0_reaching_58 (by decide) (fun c58 => ?_) (fun c58 => ?_)
                  · have c58 : 12 ≤ nI i := c58
                    have h58 : 12 ≤ i := il_ge (N := 12) (i := i) c58 (by omega) (by omega)
                    refine lv_iload hx hb dX0_reaching_104 (lv_at hl 6 rfl) ?_
                    refine lv_iload_n hx hb dX0_reaching_106 rfl (lv_at hl 3 rfl) ?_
                    refine lv_iconst (v := (-1)) hx hb dX0_reaching_107 (by decide) ?_
                    refine lv_ixor hx hb dX0_reaching_108 ?_
                    refine lv_iand hx hb dX0_reaching_109 ?_
                    refine lv_istore (lv' := [(4, .int (x6 &&& (il_n (x3 ||| x4)))), (0, .ref h0), (1, .int (nI b)), (2, .int (nI v)), (3, .int (x3 ||| x4)), (5, .int (nI r)), (6, .int x6), (7, .int (nI i))]) hx hb dX0_reaching_110 hl (by decide) rfl (fun ls hl => ?_)
                    refine lv_iinc (v := nI (r + 1)) (lv' := [(5, .int (nI (r + 1))), (4, .int (x6 &&& (il_n (x3 ||| x4)))), (0, .ref h0), (1, .int (nI b)), (2, .int (nI v)), (3, .int (x3 ||| x4)), (6, .int x6), (7, .int (nI i))]) hx hb dX0_reaching_112 hl (k := 5) rfl (nI_1 r) (by decide) rfl (fun ls hl => ?_)
                    refine lv_goto (tgt := 31) hx hb dX0_reaching_115 (by decide) ?_
                    exact ih31 (r + 1) (x3 ||| x4) (x6 &&& (il_n (x3 ||| x4))) (by omega) (by omega) (by rw [← er, show 13 - r = (13 - (r + 1)) + 1 by omega, il_rcW_s c40, il_rcN, e6, show i = 12 by omega]) ls (lv_sub hl [2, 3, 4, 5, 1, 0] rfl)
                  · have c58 : ¬ 12 ≤ nI i := c58
                    have h58 : i < 12 := il_nge (N := 12) (i := i) c58 (by omega)
                    refine lv_iload hx hb dX0_reaching_61 (lv_at hl 4 rfl) ?_
                    refine lv_iload hx hb dX0_reaching_63 (lv_at hl 7 rfl) ?_
                    refine lv_ishr hx hb dX0_reaching_65 ?_
                    refine lv_iconst (v := 1) hx hb dX0_reaching_66 (by decide) ?_
                    refine lv_iand hx hb dX0_reaching_67 ?_
                    refine lv_iconst (v := 1) hx hb dX0_reaching_68 (by decide) ?_
                    refine lv_icmp_ne (tgt := 98) hx hb dX0_reaching_69 (by decide) (fun c69 => ?_) (fun c69 => ?_)
                    · have c69 : ¬ il_b x4 i = 1 := c69
                      refine lv_iinc (v := nI (i + 1)) (lv' := [(7, .int (nI (i + 1))), (0, .ref h0), (1, .int (nI b)), (2, .int (nI v)), (3, .int (x3 ||| x4)), (4, .int x4), (5, .int (nI r)), (6, .int x6)]) hx hb dX0_reaching_98 hl (k := 7) rfl (nI_1 i) (by decide) rfl (fun ls hl => ?_)
                      refine lv_goto (tgt := 54) hx hb dX0_reaching_101 (by decide) ?_
                      exact ih54 (i + 1) x6 (by omega) (by omega) (by rw [il_up_s, ← e6, il_rcS, if_neg c69]) ls (lv_sub hl [1, 2, 3, 4, 5, 6, 7, 0] rfl)
                    · have c69 : il_b x4 i = 1 := c69
                      refine lv_aload_n hx hb dX0_reaching_72 rfl (lv_at hl 0 rfl) ?_
                      refine va_get (D := (dC, dI)) (ci := 0) (v := .ref q4) (C := RX0) (T := TX0) (N := 5) hx hb hts in_X0 hown hK hP 0 rfl rfl 3 (by decide) (hts _ q33) (fun _ h9 => h9) rfl dX0_reaching_73 ?_
                      refine lv_iload hx hb dX0_reaching_76 (lv_at hl 7 rfl) ?_
                      refine il_ld hx hb hK hP 4 0 rfl rfl h58 (by decide) dX0_reaching_78 ?_
                      refine lv_iload_n hx hb dX0_reaching_79 rfl (lv_at hl 2 rfl) ?_
                      refine lv_ishr hx hb dX0_reaching_80 ?_
                      refine lv_iconst (v := 1) hx hb dX0_reaching_81 (by decide) ?_
                      refine lv_iand hx hb dX0_reaching_82 ?_
                      refine lv_if_ne (tgt := 98) hx hb dX0_reaching_83 (by decide) (fun c83 => ?_) (fun c83 => ?_)
                      · have c83 : ¬ il_b (se i) v = 0 := c83
                        refine lv_iinc (v := nI (i + 1)) (lv' := [(7, .int (nI (i + 1))), (0, .ref h0), (1, .int (nI b)), (2, .int (nI v)), (3, .int (x3 ||| x4)), (4, .int x4), (5, .int (nI r)), (6, .int x6)]) hx hb dX0_reaching_98 hl (k := 7) rfl (nI_1 i) (by decide) rfl (fun ls hl => ?_)
                        refine lv_goto (tgt := 54) hx hb dX0_reaching_101 (by decide) ?_
                        exact ih54 (i + 1) x6 (by omega) (by omega) (by rw [il_up_s, ← e6, il_rcS, if_pos c69, if_neg c83]) ls (lv_sub hl [1, 2, 3, 4, 5, 6, 7, 0] rfl)
                      · have c83 : il_b (se i) v = 0 := c83
                        refine lv_iload hx hb dX0_reaching_86 (lv_at hl 6 rfl) ?_
                        refine lv_aload_n hx hb dX0_reaching_88 rfl (lv_at hl 0 rfl) ?_
                        refine va_get (D := (dC, dI)) (ci := 0) (v := .ref q2) (C := RX0) (T := TX0) (N := 5) hx hb hts in_X0 hown hK hP 0 rfl rfl 1 (by decide) (hts _ q31) (fun _ h9 => h9) rfl dX0_reaching_89 ?_
                        refine lv_iload hx hb dX0_reaching_92 (lv_at hl 7 rfl) ?_
                        refine il_ld hx hb hK hP 2 0 rfl rfl h58 (by decide) dX0_reaching_94 ?_
                        refine lv_ior hx hb dX0_reaching_95 ?_
                        refine lv_istore (lv' := [(6, .int (x6 ||| (fr i))), (0, .ref h0), (1, .int (nI b)), (2, .int (nI v)), (3, .int (x3 ||| x4)), (4, .int x4), (5, .int (nI r)), (7, .int (nI i))]) hx hb dX0_reaching_96 hl (by decide) rfl (fun ls hl => ?_)
                        refine lv_iinc (v := nI (i + 1)) (lv' := [(7, .int (nI (i + 1))), (6, .int (x6 ||| (fr i))), (0, .ref h0), (1, .int (nI b)), (2, .int (nI v)), (3, .int (x3 ||| x4)), (4, .int x4), (5, .int (nI r))]) hx hb dX0_reaching_98 hl (k := 7) rfl (nI_1 i) (by decide) rfl (fun ls hl => ?_)
                        refine lv_goto (tgt := 54) hx hb dX0_reaching_101 (by decide) ?_
                        exact ih54 (i + 1) (x6 ||| (fr i)) (by omega) (by omega) (by rw [il_up_s, ← e6, il_rcS, if_pos c69, if_pos c83]) ls (lv_sub hl [2, 3, 4, 5, 6, 7, 1, 0] rfl)
              exact L54 13 0 0 (by decide) (by decide) rfl ls (lv_sub hl [3, 4, 5, 1, 6, 7, 2, 0] rfl)
      exact L31 14 0 0 (fr b) (by decide) (by decide) rfl ls (lv_sub hl [3, 4, 5, 2, 1, 0] rfl)
    · have c13 : ¬ il_badV p1 = 0 := c13
      refine lv_iconst (v := (-1)) hx hb dX0_reaching_16 (by decide) ?_
      exact il_reti hx hb hr hlocks dX0_reaching_17 hQ (by rw [il_reach, if_pos c5, if_neg c13])
abbrev wsX0_crowded : List Cond := ws_ yX0_crowded cX0_crowded 5 (some .int)
abbrev rmX0_crowded : Room := il_rm 1 23
set_option maxHeartbeats 4000000 in
set_option maxRecDepth 100000 in
/-- crowded() -/
theorem metX0_crowded (l : Launch) (dC : Nat → ClassId) (dI : Nat → Nat → Nat) (h0 q1 q2 q3 q4 q5 : Nat) (d : ClassId) (to fr us se lv : il_F) : Met l yX0_crowded wsX0_crowded rmX0_crowded (il_PR dC dI (WX h0 q1 q2 q3 q4 q5 d to fr us se lv) d [.ref h0]) (vp_Si (fun r => r = il_crowd lv)) 0 0 (fun _ => False) := by
  refine Met.ofW (cc := cX0_crowded) (maxL := 5) (ret := (some .int)) (by decide) rfl ?_
  intro p e s m args below meth c s₁ B hml hv
  obtain ⟨hargs, hP, hK⟩ := hv
  have hx := B.exec
  have hb := B.bytes
  have hr := B.returns
  have hlocks := B.notSynchronized
  have hts : ∀ w ∈ lw_all, w.before args s = true := fun w h => atoms_spec (ws := wsX0_crowded) B.pre w (List.mem_cons_of_mem _ h)
  have hown : s.vm.findClass RX0 = some m.cls := findClass_of_methodNamed B.named
  have hF : CallFix p m c cX0_crowded 5 s args lw_all RX0 := ⟨hx, hb, hml, hown, hts⟩
  refine il_entry (n := 5) (vs := [.ref h0]) (Nat.le_of_ble_eq_true rfl) hargs (fun ls hl => ?_)
  have hl : lv_has ls 5 [(0, .ref h0)] := hl
  generalize hQ : MQ below (vp_Si (fun r => r = il_crowd lv)) args s 0 0 (fun _ => False) = Q
  refine lv_iconst (v := 0) hx hb dX0_crowded_0 (by decide) ?_
  refine lv_istore_n (lv' := [(1, .int 0), (0, .ref h0)]) hx hb dX0_crowded_1 rfl hl (by decide) rfl (fun ls hl => ?_)
  refine lv_iconst (v := 0) hx hb dX0_crowded_2 (by decide) ?_
  refine lv_istore_n (lv' := [(2, .int 0), (1, .int 0), (0, .ref h0)]) hx hb dX0_crowded_3 rfl hl (by decide) rfl (fun ls hl => ?_)
  have L4 : ∀ (n4 : Nat) (i : Nat) (x1 : Int32), 21 ≤ i + n4 → i ≤ 20 → x1 = il_up (il_crS lv) i 0 → ∀ ls : Array Slot, lv_has ls 5 [(0, .ref h0), (1, .int x1), (2, .int (nI i))] → W p l e (headSpec wsX0_crowded rmX0_crowded).room s m args below meth c s.heap [] 0 0 Q (F0 m 4 ls []) := by
    intro n4
    induction n4 with
    | zero =>
      intro i x1 hfu hi e1
      exact absurd hfu (by omega)
    | succ n4 ih4 =>
      intro i x1 hfu hi e1 ls hl
      refine lv_iload_n hx hb dX0_crowded_4 rfl (lv_at hl 2 rfl) ?_
      refine lv_bipush (v := 20) hx hb dX0_crowded_5 (by decide) ?_
      refine lv_icmp_ge (tgt := 75) hx hb dX0_crowded_7 (by decide) (fun c7 => ?_) (fun c7 => ?_)
      · have c7 : 20 ≤ nI i := c7
        have h7 : 20 ≤ i := il_ge (N := 20) (i := i) c7 (by omega) (by omega)
        refine lv_iload_n hx hb dX0_crowded_75 rfl (lv_at hl 1 rfl) ?_
        exact il_reti hx hb hr hlocks dX0_crowded_76 hQ (by rw [e1, il_crowd, show i = 20 by omega])
      · have c7 : ¬ 20 ≤ nI i := c7
        have h7 : i < 20 := il_nge (N := 20) (i := i) c7 (by omega)
        refine lv_iconst (v := 0) hx hb dX0_crowded_10 (by decide) ?_
        refine lv_istore_n (lv' := [(3, .int 0), (0, .ref h0), (1, .int x1), (2, .int (nI i))]) hx hb dX0_crowded_11 rfl hl (by decide) rfl (fun ls hl => ?_)
        refine lv_iconst (v := 0) hx hb dX0_crowded_12 (by decide) ?_
        refine lv_istore (lv' := [(4, .int 0), (3, .int 0), (0, .ref h0), (1, .int x1), (2, .int (nI i))]) hx hb dX0_crowded_13 hl (by decide) rfl (fun ls hl => ?_)
        have L15 : ∀ (n15 : Nat) (j : Nat) (x3 : Int32), 13 ≤ j + n15 → j ≤ 12 → x3 = il_up (il_toS lv i) j 0 → ∀ ls : Array Slot, lv_has ls 5 [(0, .ref h0), (1, .int x1), (2, .int (nI i)), (3, .int x3), (4, .int (nI j))] → W p l e (headSpec wsX0_crowded rmX0_crowded).room s m args below meth c s.heap [] 0 0 Q (F0 m 15 ls []) := by
          intro n15
          induction n15 with
          | zero =>
            intro j x3 hfu hj e3
            exact absurd hfu (by omega)
          | succ n15 ih15 =>
            intro j x3 hfu hj e3 ls hl
            refine lv_iload hx hb dX0_crowded_15 (lv_at hl 4 rfl) ?_
            refine lv_bipush (v := 12) hx hb dX0_crowded_17 (by decide) ?_
            refine lv_icmp_ge (tgt := 53) hx hb dX0_crowded_19 (by decide) (fun c19 => ?_) (fun c19 => ?_)
            · have c19 : 12 ≤ nI j := c19
              have h19 : 12 ≤ j := il_ge (N := 12) (i := j) c19 (by omega) (by omega)
              refine lv_aload_n hx hb dX0_crowded_53 rfl (lv_at hl 0 rfl) ?_
              refine lv_iload_n hx hb dX0_crowded_54 rfl (lv_at hl 3 rfl) ?_
              refine lv_iload_n hx hb dX0_crowded_55 rfl (lv_at hl 2 rfl) ?_
              refine lv_iconst (v := 1) hx hb dX0_crowded_56 (by decide) ?_
              refine lv_iadd hx hb dX0_crowded_57 ?_
              refine lv_ishr hx hb dX0_crowded_58 ?_
              refine il_callR (As := [.int (x3 >>> (((nI i) + 1) &&& 31))]) (rest := []) (v := il_size (x3 >>> (((nI i) + 1) &&& 31))) hF hK hP 0 rfl rfl (metX0_sizeOf l dC dI h0 q1 q2 q3 q4 q5 d to fr us se lv (x3 >>> (((nI i) + 1) &&& 31))) (cwV 1 hts (lw_V q132 q134 qs10 q20 q135) rfl rfl rfl (by decide +kernel) ⟨Nat.le_of_ble_eq_true rfl, Nat.le_of_ble_eq_true rfl⟩) rfl hl.1 (Nat.le_of_ble_eq_true rfl) dX0_crowded_59 ⟨Nat.le_of_ble_eq_true rfl, Nat.le_of_ble_eq_true rfl⟩ rfl ?_
              refine lv_istore (lv' := [(4, .int (il_size (x3 >>> (((nI i) + 1) &&& 31)))), (0, .ref h0), (1, .int x1), (2, .int (nI i)), (3, .int x3)]) hx hb dX0_crowded_62 hl (by decide) rfl (fun ls hl => ?_)
              refine lv_iload_n hx hb dX0_crowded_64 rfl (lv_at hl 2 rfl) ?_
              refine lv_iload hx hb dX0_crowded_65 (lv_at hl 0 rfl) ?_
              refine lv_iadd hx hb dX0_crowded_67 ?_
              refine lv_istore_n (lv' := [(1, .int (x1 + (il_size (x3 >>> (((nI i) + 1) &&& 31))))), (4, .int (il_size (x3 >>> (((nI i) + 1) &&& 31)))), (0, .ref h0), (2, .int (nI i)), (3, .int x3)]) hx hb dX0_crowded_68 rfl hl (by decide) rfl (fun ls hl => ?_)
              refine lv_iinc (v := nI (i + 1)) (lv' := [(2, .int (nI (i + 1))), (1, .int (x1 + (il_size (x3 >>> (((nI i) + 1) &&& 31))))), (4, .int (il_size (x3 >>> (((nI i) + 1) &&& 31)))), (0, .ref h0), (3, .int x3)]) hx hb dX0_crowded_69 hl (k := 3) rfl (nI_1 i) (by decide) rfl (fun ls hl => ?_)
              refine lv_goto (tgt := 4) hx hb dX0_crowded_72 (by decide) ?_
              exact ih4 (i + 1) (x1 + (il_size (x3 >>> (((nI i) + 1) &&& 31)))) (by omega) (by omega) (by rw [il_up_s, ← e1, il_crS, il_tog, e3, show j = 12 by omega]) ls (lv_sub hl [3, 1, 0] rfl)
            · have c19 : ¬ 12 ≤ nI j := c19
              have h19 : j < 12 := il_nge (N := 12) (i := j) c19 (by omega)
              refine lv_aload_n hx hb dX0_crowded_22 rfl (lv_at hl 0 rfl) ?_
              refine va_get (D := (dC, dI)) (ci := 0) (v := .ref q5) (C := RX0) (T := TX0) (N := 5) hx hb hts in_X0 hown hK hP 0 rfl rfl 4 (by decide) (hts _ q34) (fun _ h9 => h9) rfl dX0_crowded_23 ?_
              refine lv_iload hx hb dX0_crowded_26 (lv_at hl 4 rfl) ?_
              refine il_ld hx hb hK hP 5 0 rfl rfl h19 (by decide) dX0_crowded_28 ?_
              refine lv_iload_n hx hb dX0_crowded_29 rfl (lv_at hl 2 rfl) ?_
              refine lv_ishr hx hb dX0_crowded_30 ?_
              refine lv_iconst (v := 1) hx hb dX0_crowded_31 (by decide) ?_
              refine lv_iand hx hb dX0_crowded_32 ?_
              refine lv_iconst (v := 1) hx hb dX0_crowded_33 (by decide) ?_
              refine lv_icmp_ne (tgt := 47) hx hb dX0_crowded_34 (by decide) (fun c34 => ?_) (fun c34 => ?_)
              · have c34 : ¬ il_b (lv j) i = 1 := c34
                refine lv_iinc (v := nI (j + 1)) (lv' := [(4, .int (nI (j + 1))), (0, .ref h0), (1, .int x1), (2, .int (nI i)), (3, .int x3)]) hx hb dX0_crowded_47 hl (k := 4) rfl (nI_1 j) (by decide) rfl (fun ls hl => ?_)
                refine lv_goto (tgt := 15) hx hb dX0_crowded_50 (by decide) ?_
                exact ih15 (j + 1) x3 (by omega) (by omega) (by rw [il_up_s, ← e3, il_toS, if_neg c34]) ls (lv_sub hl [1, 2, 3, 4, 0] rfl)
              · have c34 : il_b (lv j) i = 1 := c34
                refine lv_iload_n hx hb dX0_crowded_37 rfl (lv_at hl 3 rfl) ?_
                refine lv_aload_n hx hb dX0_crowded_38 rfl (lv_at hl 0 rfl) ?_
                refine va_get (D := (dC, dI)) (ci := 0) (v := .ref q5) (C := RX0) (T := TX0) (N := 5) hx hb hts in_X0 hown hK hP 0 rfl rfl 4 (by decide) (hts _ q34) (fun _ h9 => h9) rfl dX0_crowded_39 ?_
                refine lv_iload hx hb dX0_crowded_42 (lv_at hl 4 rfl) ?_
                refine il_ld hx hb hK hP 5 0 rfl rfl h19 (by decide) dX0_crowded_44 ?_
                refine lv_ior hx hb dX0_crowded_45 ?_
                refine lv_istore_n (lv' := [(3, .int (x3 ||| (lv j))), (0, .ref h0), (1, .int x1), (2, .int (nI i)), (4, .int (nI j))]) hx hb dX0_crowded_46 rfl hl (by decide) rfl (fun ls hl => ?_)
                refine lv_iinc (v := nI (j + 1)) (lv' := [(4, .int (nI (j + 1))), (3, .int (x3 ||| (lv j))), (0, .ref h0), (1, .int x1), (2, .int (nI i))]) hx hb dX0_crowded_47 hl (k := 4) rfl (nI_1 j) (by decide) rfl (fun ls hl => ?_)
                refine lv_goto (tgt := 15) hx hb dX0_crowded_50 (by decide) ?_
                exact ih15 (j + 1) (x3 ||| (lv j)) (by omega) (by omega) (by rw [il_up_s, ← e3, il_toS, if_pos c34]) ls (lv_sub hl [2, 3, 4, 1, 0] rfl)
        exact L15 13 0 0 (by decide) (by decide) rfl ls (lv_sub hl [2, 3, 4, 1, 0] rfl)
  exact L4 21 0 0 (by decide) (by decide) rfl ls (lv_sub hl [2, 1, 0] rfl)
end
section
abbrev wsX1_isBlock : List Cond := ws_ yX1_isBlock cX1_isBlock 2 (some .boolean)
abbrev rmX1_isBlock : Room := il_rm 0 0
set_option maxHeartbeats 4000000 in
set_option maxRecDepth 100000 in
/-- isBlock -/
theorem metX1_isBlock (l : Launch) (dC : Nat → ClassId) (dI : Nat → Nat → Nat) (h0 q1 q2 q3 q4 : Nat) (d : ClassId) (nx us se lv : il_F) (p0 : Int32) : Met l yX1_isBlock wsX1_isBlock rmX1_isBlock (il_PR dC dI (WY h0 q1 q2 q3 q4 d nx us se lv) d [.ref h0, .int p0]) (vp_Si (fun r => r = im_isB p0)) 0 0 (fun _ => False) := by
  refine Met.ofW (cc := cX1_isBlock) (maxL := 2) (ret := (some .boolean)) (by decide) rfl ?_
  intro p e s m args below meth c s₁ B hml hv
  obtain ⟨hargs, hP, hK⟩ := hv
  have hx := B.exec
  have hb := B.bytes
  have hr := B.returns
  have hlocks := B.notSynchronized
  have hts : ∀ w ∈ lw_all, w.before args s = true := fun w h => atoms_spec (ws := wsX1_isBlock) B.pre w (List.mem_cons_of_mem _ h)
  have hown : s.vm.findClass RX1 = some m.cls := findClass_of_methodNamed B.named
  have hF : CallFix p m c cX1_isBlock 2 s args lw_all RX1 := ⟨hx, hb, hml, hown, hts⟩
  refine il_entry (n := 2) (vs := [.ref h0, .int p0]) (Nat.le_of_ble_eq_true rfl) hargs (fun ls hl => ?_)
  have hl : lv_has ls 2 [(0, .ref h0), (1, .int p0)] := hl
  generalize hQ : MQ below (vp_Si (fun r => r = im_isB p0)) args s 0 0 (fun _ => False) = Q
  refine lv_iload_n hx hb dX1_isBlock_0 rfl (lv_at hl 1 rfl) ?_
  refine lv_if_lt (tgt := 14) hx hb dX1_isBlock_1 (by decide) (fun c1 => ?_) (fun c1 => ?_)
  · have c1 : p0 < 0 := c1
    refine lv_iconst (v := 0) hx hb dX1_isBlock_14 (by decide) ?_
    exact il_retz hx hb hr hlocks dX1_isBlock_15 hQ rfl (by rw [im_isB, if_pos c1])
  · have c1 : ¬ p0 < 0 := c1
    refine lv_iload_n hx hb dX1_isBlock_4 rfl (lv_at hl 1 rfl) ?_
    refine lv_bipush (v := 11) hx hb dX1_isBlock_5 (by decide) ?_
    refine lv_icmp_gt (tgt := 14) hx hb dX1_isBlock_7 (by decide) (fun c7 => ?_) (fun c7 => ?_)
    · have c7 : 11 < p0 := c7
      refine lv_iconst (v := 0) hx hb dX1_isBlock_14 (by decide) ?_
      exact il_retz hx hb hr hlocks dX1_isBlock_15 hQ rfl (by rw [im_isB, if_neg c1, if_pos c7])
    · have c7 : ¬ 11 < p0 := c7
      refine lv_iconst (v := 1) hx hb dX1_isBlock_10 (by decide) ?_
      refine lv_goto (tgt := 15) hx hb dX1_isBlock_11 (by decide) ?_
      exact il_retz hx hb hr hlocks dX1_isBlock_15 hQ rfl (by rw [im_isB, if_neg c1, if_neg c7])
abbrev wsX1_isVariable : List Cond := ws_ yX1_isVariable cX1_isVariable 2 (some .boolean)
abbrev rmX1_isVariable : Room := il_rm 0 0
set_option maxHeartbeats 4000000 in
set_option maxRecDepth 100000 in
/-- isVariable -/
theorem metX1_isVariable (l : Launch) (dC : Nat → ClassId) (dI : Nat → Nat → Nat) (h0 q1 q2 q3 q4 : Nat) (d : ClassId) (nx us se lv : il_F) (p0 : Int32) : Met l yX1_isVariable wsX1_isVariable rmX1_isVariable (il_PR dC dI (WY h0 q1 q2 q3 q4 d nx us se lv) d [.ref h0, .int p0]) (vp_Si (fun r => r = im_isV p0)) 0 0 (fun _ => False) := by
  refine Met.ofW (cc := cX1_isVariable) (maxL := 2) (ret := (some .boolean)) (by decide) rfl ?_
  intro p e s m args below meth c s₁ B hml hv
  obtain ⟨hargs, hP, hK⟩ := hv
  have hx := B.exec
  have hb := B.bytes
  have hr := B.returns
  have hlocks := B.notSynchronized
  have hts : ∀ w ∈ lw_all, w.before args s = true := fun w h => atoms_spec (ws := wsX1_isVariable) B.pre w (List.mem_cons_of_mem _ h)
  have hown : s.vm.findClass RX1 = some m.cls := findClass_of_methodNamed B.named
  have hF : CallFix p m c cX1_isVariable 2 s args lw_all RX1 := ⟨hx, hb, hml, hown, hts⟩
  refine il_entry (n := 2) (vs := [.ref h0, .int p0]) (Nat.le_of_ble_eq_true rfl) hargs (fun ls hl => ?_)
  have hl : lv_has ls 2 [(0, .ref h0), (1, .int p0)] := hl
  generalize hQ : MQ below (vp_Si (fun r => r = im_isV p0)) args s 0 0 (fun _ => False) = Q
  refine lv_iload_n hx hb dX1_isVariable_0 rfl (lv_at hl 1 rfl) ?_
  refine lv_if_lt (tgt := 14) hx hb dX1_isVariable_1 (by decide) (fun c1 => ?_) (fun c1 => ?_)
  · have c1 : p0 < 0 := c1
    refine lv_iconst (v := 0) hx hb dX1_isVariable_14 (by decide) ?_
    exact il_retz hx hb hr hlocks dX1_isVariable_15 hQ rfl (by rw [im_isV, if_pos c1])
  · have c1 : ¬ p0 < 0 := c1
    refine lv_iload_n hx hb dX1_isVariable_4 rfl (lv_at hl 1 rfl) ?_
    refine lv_bipush (v := 19) hx hb dX1_isVariable_5 (by decide) ?_
    refine lv_icmp_gt (tgt := 14) hx hb dX1_isVariable_7 (by decide) (fun c7 => ?_) (fun c7 => ?_)
    · have c7 : 19 < p0 := c7
      refine lv_iconst (v := 0) hx hb dX1_isVariable_14 (by decide) ?_
      exact il_retz hx hb hr hlocks dX1_isVariable_15 hQ rfl (by rw [im_isV, if_neg c1, if_pos c7])
    · have c7 : ¬ 19 < p0 := c7
      refine lv_iconst (v := 1) hx hb dX1_isVariable_10 (by decide) ?_
      refine lv_goto (tgt := 15) hx hb dX1_isVariable_11 (by decide) ?_
      exact il_retz hx hb hr hlocks dX1_isVariable_15 hQ rfl (by rw [im_isV, if_neg c1, if_neg c7])
abbrev wsX1_has : List Cond := ws_ yX1_has cX1_has 3 (some .boolean)
abbrev rmX1_has : Room := il_rm 0 0
set_option maxHeartbeats 4000000 in
set_option maxRecDepth 100000 in
/-- has(set, i) -/
theorem metX1_has (l : Launch) (dC : Nat → ClassId) (dI : Nat → Nat → Nat) (h0 q1 q2 q3 q4 : Nat) (d : ClassId) (nx us se lv : il_F) (x0 : Int32) (i : Nat) : Met l yX1_has wsX1_has rmX1_has (il_PR dC dI (WY h0 q1 q2 q3 q4 d nx us se lv) d [.ref h0, .int x0, .int (nI i)]) (vp_Si (fun r => r = im_has x0 i)) 0 0 (fun _ => False) := by
  refine Met.ofW (cc := cX1_has) (maxL := 3) (ret := (some .boolean)) (by decide) rfl ?_
  intro p e s m args below meth c s₁ B hml hv
  obtain ⟨hargs, hP, hK⟩ := hv
  have hx := B.exec
  have hb := B.bytes
  have hr := B.returns
  have hlocks := B.notSynchronized
  have hts : ∀ w ∈ lw_all, w.before args s = true := fun w h => atoms_spec (ws := wsX1_has) B.pre w (List.mem_cons_of_mem _ h)
  have hown : s.vm.findClass RX1 = some m.cls := findClass_of_methodNamed B.named
  have hF : CallFix p m c cX1_has 3 s args lw_all RX1 := ⟨hx, hb, hml, hown, hts⟩
  refine il_entry (n := 3) (vs := [.ref h0, .int x0, .int (nI i)]) (Nat.le_of_ble_eq_true rfl) hargs (fun ls hl => ?_)
  have hl : lv_has ls 3 [(0, .ref h0), (1, .int x0), (2, .int (nI i))] := hl
  generalize hQ : MQ below (vp_Si (fun r => r = im_has x0 i)) args s 0 0 (fun _ => False) = Q
  refine lv_iload_n hx hb dX1_has_0 rfl (lv_at hl 1 rfl) ?_
  refine lv_iload_n hx hb dX1_has_1 rfl (lv_at hl 2 rfl) ?_
  refine lv_ishr hx hb dX1_has_2 ?_
  refine lv_iconst (v := 1) hx hb dX1_has_3 (by decide) ?_
  refine lv_iand hx hb dX1_has_4 ?_
  refine lv_iconst (v := 1) hx hb dX1_has_5 (by decide) ?_
  refine lv_icmp_ne (tgt := 13) hx hb dX1_has_6 (by decide) (fun c6 => ?_) (fun c6 => ?_)
  · have c6 : ¬ il_b x0 i = 1 := c6
    refine lv_iconst (v := 0) hx hb dX1_has_13 (by decide) ?_
    exact il_retz hx hb hr hlocks dX1_has_14 hQ rfl (by rw [im_has, if_neg c6])
  · have c6 : il_b x0 i = 1 := c6
    refine lv_iconst (v := 1) hx hb dX1_has_9 (by decide) ?_
    refine lv_goto (tgt := 14) hx hb dX1_has_10 (by decide) ?_
    exact il_retz hx hb hr hlocks dX1_has_14 hQ rfl (by rw [im_has, if_pos c6])
abbrev wsX1_sizeOf : List Cond := ws_ yX1_sizeOf cX1_sizeOf 4 (some .int)
abbrev rmX1_sizeOf : Room := il_rm 1 22
set_option maxHeartbeats 4000000 in
set_option maxRecDepth 100000 in
/-- sizeOf(set) -/
theorem metX1_sizeOf (l : Launch) (dC : Nat → ClassId) (dI : Nat → Nat → Nat) (h0 q1 q2 q3 q4 : Nat) (d : ClassId) (nx us se lv : il_F) (x0 : Int32) : Met l yX1_sizeOf wsX1_sizeOf rmX1_sizeOf (il_PR dC dI (WY h0 q1 q2 q3 q4 d nx us se lv) d [.ref h0, .int x0]) (vp_Si (fun r => r = im_size x0)) 0 0 (fun _ => False) := by
  refine Met.ofW (cc := cX1_sizeOf) (maxL := 4) (ret := (some .int)) (by decide) rfl ?_
  intro p e s m args below meth c s₁ B hml hv
  obtain ⟨hargs, hP, hK⟩ := hv
  have hx := B.exec
  have hb := B.bytes
  have hr := B.returns
  have hlocks := B.notSynchronized
  have hts : ∀ w ∈ lw_all, w.before args s = true := fun w h => atoms_spec (ws := wsX1_sizeOf) B.pre w (List.mem_cons_of_mem _ h)
  have hown : s.vm.findClass RX1 = some m.cls := findClass_of_methodNamed B.named
  have hF : CallFix p m c cX1_sizeOf 4 s args lw_all RX1 := ⟨hx, hb, hml, hown, hts⟩
  refine il_entry (n := 4) (vs := [.ref h0, .int x0]) (Nat.le_of_ble_eq_true rfl) hargs (fun ls hl => ?_)
  have hl : lv_has ls 4 [(0, .ref h0), (1, .int x0)] := hl
  generalize hQ : MQ below (vp_Si (fun r => r = im_size x0)) args s 0 0 (fun _ => False) = Q
  refine lv_iconst (v := 0) hx hb dX1_sizeOf_0 (by decide) ?_
  refine lv_istore_n (lv' := [(2, .int 0), (0, .ref h0), (1, .int x0)]) hx hb dX1_sizeOf_1 rfl hl (by decide) rfl (fun ls hl => ?_)
  refine lv_iconst (v := 0) hx hb dX1_sizeOf_2 (by decide) ?_
  refine lv_istore_n (lv' := [(3, .int 0), (2, .int 0), (0, .ref h0), (1, .int x0)]) hx hb dX1_sizeOf_3 rfl hl (by decide) rfl (fun ls hl => ?_)
  have L4 : ∀ (n4 : Nat) (i : Nat) (x2 : Int32), 21 ≤ i + n4 → i ≤ 20 → x2 = il_up (im_szS x0) i 0 → ∀ ls : Array Slot, lv_has ls 4 [(0, .ref h0), (1, .int x0), (2, .int x2), (3, .int (nI i))] → W p l e (headSpec wsX1_sizeOf rmX1_sizeOf).room s m args below meth c s.heap [] 0 0 Q (F0 m 4 ls []) := by
    intro n4
    induction n4 with
    | zero =>
      intro i x2 hfu hi e2
      exact absurd hfu (by omega)
    | succ n4 ih4 =>
      intro i x2 hfu hi e2 ls hl
      refine lv_iload_n hx hb dX1_sizeOf_4 rfl (lv_at hl 3 rfl) ?_
      refine lv_bipush (v := 20) hx hb dX1_sizeOf_5 (by decide) ?_
      refine lv_icmp_ge (tgt := 33) hx hb dX1_sizeOf_7 (by decide) (fun c7 => ?_) (fun c7 => ?_)
      · have c7 : 20 ≤ nI i := c7
        have h7 : 20 ≤ i := il_ge (N := 20) (i := i) c7 (by omega) (by omega)
        refine lv_iload_n hx hb dX1_sizeOf_33 rfl (lv_at hl 2 rfl) ?_
        exact il_reti hx hb hr hlocks dX1_sizeOf_34 hQ (by rw [e2, im_size, show i = 20 by omega])
      · have c7 : ¬ 20 ≤ nI i := c7
        have h7 : i < 20 := il_nge (N := 20) (i := i) c7 (by omega)
        refine lv_aload_n hx hb dX1_sizeOf_10 rfl (lv_at hl 0 rfl) ?_
        refine lv_iload_n hx hb dX1_sizeOf_11 rfl (lv_at hl 1 rfl) ?_
        refine lv_iload_n hx hb dX1_sizeOf_12 rfl (lv_at hl 3 rfl) ?_
        refine il_callR (As := [.int x0, .int (nI i)]) (rest := []) (v := im_has x0 i) hF hK hP 1 rfl rfl (metX1_has l dC dI h0 q1 q2 q3 q4 d nx us se lv x0 i) (cwV 2 hts (lw_V q179 q181 qs12 q21 q182) rfl rfl rfl (by decide +kernel) ⟨Nat.le_of_ble_eq_true rfl, Nat.le_of_ble_eq_true rfl⟩) rfl hl.1 (Nat.le_of_ble_eq_true rfl) dX1_sizeOf_13 ⟨Nat.le_of_ble_eq_true rfl, Nat.le_of_ble_eq_true rfl⟩ rfl ?_
        refine lv_if_eq (tgt := 25) hx hb dX1_sizeOf_16 (by decide) (fun c16 => ?_) (fun c16 => ?_)
        · have c16 : im_has x0 i = 0 := c16
          refine lv_iload_n hx hb dX1_sizeOf_25 rfl (lv_at hl 2 rfl) ?_
          refine lv_istore_n (lv' := [(2, .int x2), (0, .ref h0), (1, .int x0), (3, .int (nI i))]) hx hb dX1_sizeOf_26 rfl hl (by decide) rfl (fun ls hl => ?_)
          refine lv_iinc (v := nI (i + 1)) (lv' := [(3, .int (nI (i + 1))), (2, .int x2), (0, .ref h0), (1, .int x0)]) hx hb dX1_sizeOf_27 hl (k := 3) rfl (nI_1 i) (by decide) rfl (fun ls hl => ?_)
          refine lv_goto (tgt := 4) hx hb dX1_sizeOf_30 (by decide) ?_
          exact ih4 (i + 1) x2 (by omega) (by omega) (by rw [il_up_s, ← e2, im_szS, if_pos c16]) ls (lv_sub hl [2, 3, 1, 0] rfl)
        · have c16 : ¬ im_has x0 i = 0 := c16
          refine lv_iload_n hx hb dX1_sizeOf_19 rfl (lv_at hl 2 rfl) ?_
          refine lv_iconst (v := 1) hx hb dX1_sizeOf_20 (by decide) ?_
          refine lv_iadd hx hb dX1_sizeOf_21 ?_
          refine lv_goto (tgt := 26) hx hb dX1_sizeOf_22 (by decide) ?_
          refine lv_istore_n (lv' := [(2, .int (x2 + 1)), (0, .ref h0), (1, .int x0), (3, .int (nI i))]) hx hb dX1_sizeOf_26 rfl hl (by decide) rfl (fun ls hl => ?_)
          refine lv_iinc (v := nI (i + 1)) (lv' := [(3, .int (nI (i + 1))), (2, .int (x2 + 1)), (0, .ref h0), (1, .int x0)]) hx hb dX1_sizeOf_27 hl (k := 3) rfl (nI_1 i) (by decide) rfl (fun ls hl => ?_)
          refine lv_goto (tgt := 4) hx hb dX1_sizeOf_30 (by decide) ?_
          exact ih4 (i + 1) (x2 + 1) (by omega) (by omega) (by rw [il_up_s, ← e2, im_szS, if_neg c16]) ls (lv_sub hl [2, 3, 1, 0] rfl)
  exact L4 21 0 0 (by decide) (by decide) rfl ls (lv_sub hl [2, 3, 1, 0] rfl)
abbrev wsX1_arc : List Cond := ws_ yX1_arc cX1_arc 5 (some .int)
abbrev rmX1_arc : Room := il_rm 1 21
set_option maxHeartbeats 4000000 in
set_option maxRecDepth 100000 in
/-- arc(a, b, on) -/
theorem metX1_arc (l : Launch) (dC : Nat → ClassId) (dI : Nat → Nat → Nat) (h0 q1 q2 q3 q4 : Nat) (d : ClassId) (sz : Nat) (nx us se lv : il_F) (p0 p1 p2 : Int32) : Met l yX1_arc wsX1_arc rmX1_arc (il_PM dC dI (WY h0 q1 q2 q3 q4 d nx us se lv) d sz [.ref h0, .int p0, .int p1, .int p2]) (va_Qi (fun (r : Int32) (_ : Unit) => r = im_arcR nx p0 p1) (il_B dC dI (va_A (WY h0 q1 q2 q3 q4 d nx us se lv) sz) (WY h0 q1 q2 q3 q4 d (im_arc nx p0 p1 p2) us se lv) d) (va_A (WY h0 q1 q2 q3 q4 d nx us se lv) sz)) 0 0 (va_A (WY h0 q1 q2 q3 q4 d nx us se lv) sz) := by
  refine Met.ofW (cc := cX1_arc) (maxL := 5) (ret := (some .int)) (by decide) rfl ?_
  intro p e s m args below meth c s₁ B hml hv
  obtain ⟨hargs, hsz, hP, hK, hD0⟩ := hv
  have hx := B.exec
  have hb := B.bytes
  have hr := B.returns
  have hlocks := B.notSynchronized
  have hts : ∀ w ∈ lw_all, w.before args s = true := fun w h => atoms_spec (ws := wsX1_arc) B.pre w (List.mem_cons_of_mem _ h)
  have hown : s.vm.findClass RX1 = some m.cls := findClass_of_methodNamed B.named
  have hF : CallFix p m c cX1_arc 5 s args lw_all RX1 := ⟨hx, hb, hml, hown, hts⟩
  subst hsz
  have hD := hD0.self (sz := s.heap.size)
  generalize hAe : va_A (WY h0 q1 q2 q3 q4 d nx us se lv) s.heap.size = A at hD ⊢
  have hA : ∀ q : Nat, s.heap.size ≤ q → A q := fun q h => by rw [← hAe]; exact Or.inr h
  have hS : va_S A s.heap s.heap [] := va_S.rf
  refine il_entry (n := 5) (vs := [.ref h0, .int p0, .int p1, .int p2]) (Nat.le_of_ble_eq_true rfl) hargs (fun ls hl => ?_)
  have hl : lv_has ls 5 [(0, .ref h0), (1, .int p0), (2, .int p1), (3, .int p2)] := hl
  generalize hQ : MQ below (va_Qi (fun (r : Int32) (_ : Unit) => r = im_arcR nx p0 p1) (il_B dC dI A (WY h0 q1 q2 q3 q4 d (im_arc nx p0 p1 p2) us se lv) d) A) args s 0 0 A = Q
  have hP : va_P (dC, dI) vwCl (WY h0 q1 q2 q3 q4 d nx us se lv) s.heap := hP
  refine lv_aload_n hx hb dX1_arc_0 rfl (lv_at hl 0 rfl) ?_
  refine lv_iload_n hx hb dX1_arc_1 rfl (lv_at hl 1 rfl) ?_
  refine il_callR (As := [.int p0]) (rest := []) (v := im_isB p0) hF hK hP 1 rfl rfl (metX1_isBlock l dC dI h0 q1 q2 q3 q4 d nx us se lv p0) (cwV 1 hts (lw_V q171 q173 qs11 q21 q174) rfl rfl rfl (by decide +kernel) ⟨Nat.le_of_ble_eq_true rfl, Nat.le_of_ble_eq_true rfl⟩) rfl hl.1 (Nat.le_of_ble_eq_true rfl) dX1_arc_2 ⟨Nat.le_of_ble_eq_true rfl, Nat.le_of_ble_eq_true rfl⟩ rfl ?_
  refine lv_if_eq (tgt := 16) hx hb dX1_arc_5 (by decide) (fun c5 => ?_) (fun c5 => ?_)
  · have c5 : im_isB p0 = 0 := c5
    refine lv_iconst (v := (-1)) hx hb dX1_arc_16 (by decide) ?_
    exact il_retiM hx hb hr hlocks dX1_arc_17 hQ hK hP hD hS (by rw [im_arc, if_pos c5]) (by rw [im_arcR, if_pos c5])
  · have c5 : ¬ im_isB p0 = 0 := c5
    obtain ⟨a, ha, rfl⟩ := im_isB_in c5
    refine lv_aload_n hx hb dX1_arc_8 rfl (lv_at hl 0 rfl) ?_
    refine lv_iload_n hx hb dX1_arc_9 rfl (lv_at hl 2 rfl) ?_
    refine il_callR (As := [.int p1]) (rest := []) (v := im_isB p1) hF hK hP 1 rfl rfl (metX1_isBlock l dC dI h0 q1 q2 q3 q4 d nx us se lv p1) (cwV 1 hts (lw_V q171 q173 qs11 q21 q174) rfl rfl rfl (by decide +kernel) ⟨Nat.le_of_ble_eq_true rfl, Nat.le_of_ble_eq_true rfl⟩) rfl hl.1 (Nat.le_of_ble_eq_true rfl) dX1_arc_10 ⟨Nat.le_of_ble_eq_true rfl, Nat.le_of_ble_eq_true rfl⟩ rfl ?_
    refine lv_if_ne (tgt := 18) hx hb dX1_arc_13 (by decide) (fun c13 => ?_) (fun c13 => ?_)
    · have c13 : ¬ im_isB p1 = 0 := c13
      obtain ⟨b, hb12, rfl⟩ := im_isB_in c13
      refine lv_aload_n hx hb dX1_arc_18 rfl (lv_at hl 0 rfl) ?_
      refine va_get (D := (dC, dI)) (ci := 1) (v := .ref q1) (C := RX1) (T := TX1) (N := 4) hx hb hts in_X1 hown hK hP 0 rfl rfl 0 (by decide) (hts _ q154) (fun _ h9 => h9) rfl dX1_arc_19 ?_
      refine lv_iload_n hx hb dX1_arc_22 rfl (lv_at hl 1 rfl) ?_
      refine il_ld hx hb hK hP 1 0 rfl rfl ha (by decide) dX1_arc_23 ?_
      refine lv_iload_n hx hb dX1_arc_24 rfl (lv_at hl 2 rfl) ?_
      refine lv_ishr hx hb dX1_arc_25 ?_
      refine lv_iconst (v := 1) hx hb dX1_arc_26 (by decide) ?_
      refine lv_iand hx hb dX1_arc_27 ?_
      refine lv_istore (lv' := [(4, .int (il_b (nx a) b)), (0, .ref h0), (1, .int (nI a)), (2, .int (nI b)), (3, .int p2)]) hx hb dX1_arc_28 hl (by decide) rfl (fun ls hl => ?_)
      refine lv_aload_n hx hb dX1_arc_30 rfl (lv_at hl 1 rfl) ?_
      refine va_get (D := (dC, dI)) (ci := 1) (v := .ref q1) (C := RX1) (T := TX1) (N := 4) hx hb hts in_X1 hown hK hP 0 rfl rfl 0 (by decide) (hts _ q154) (fun _ h9 => h9) rfl dX1_arc_31 ?_
      refine lv_iload_n hx hb dX1_arc_34 rfl (lv_at hl 2 rfl) ?_
      refine lv_iload_n hx hb dX1_arc_35 rfl (lv_at hl 4 rfl) ?_
      refine lv_if_eq (tgt := 52) hx hb dX1_arc_36 (by decide) (fun c36 => ?_) (fun c36 => ?_)
      · have c36 : p2 = 0 := c36
        refine lv_aload_n hx hb dX1_arc_52 rfl (lv_at hl 1 rfl) ?_
        refine va_get (D := (dC, dI)) (ci := 1) (v := .ref q1) (C := RX1) (T := TX1) (N := 4) hx hb hts in_X1 hown hK hP 0 rfl rfl 0 (by decide) (hts _ q154) (fun _ h9 => h9) rfl dX1_arc_53 ?_
        refine lv_iload_n hx hb dX1_arc_56 rfl (lv_at hl 2 rfl) ?_
        refine il_ld hx hb hK hP 1 0 rfl rfl ha (by decide) dX1_arc_57 ?_
        refine lv_iconst (v := 1) hx hb dX1_arc_58 (by decide) ?_
        refine lv_iload_n hx hb dX1_arc_59 rfl (lv_at hl 3 rfl) ?_
        refine lv_ishl hx hb dX1_arc_60 ?_
        refine lv_iconst (v := (-1)) hx hb dX1_arc_61 (by decide) ?_
        refine lv_ixor hx hb dX1_arc_62 ?_
        refine lv_iand hx hb dX1_arc_63 ?_
        refine il_st hx hb hK hP hD hS 1 0 rfl rfl ha (by decide) dX1_arc_64 (fun H locs hP hD hS => ?_)
        have hP : va_P (dC, dI) vwCl (WY h0 q1 q2 q3 q4 d (upd nx a ((nx a) &&& (il_n (il_o b)))) us se lv) H := hP
        have hD : va_D A (WY h0 q1 q2 q3 q4 d (upd nx a ((nx a) &&& (il_n (il_o b)))) us se lv) := hD
        refine lv_iload hx hb dX1_arc_65 (lv_at hl 0 rfl) ?_
        exact il_retiM hx hb hr hlocks dX1_arc_67 hQ hK hP hD hS (by rw [im_arc, if_neg c5, if_neg c13, il_nat_nI (i := a) (by omega), il_nat_nI (i := b) (by omega), im_put, if_pos c36]) (by rw [im_arcR, if_neg c5, if_neg c13, il_nat_nI (i := a) (by omega), il_nat_nI (i := b) (by omega)])
      · have c36 : ¬ p2 = 0 := c36
        refine lv_aload_n hx hb dX1_arc_39 rfl (lv_at hl 1 rfl) ?_
        refine va_get (D := (dC, dI)) (ci := 1) (v := .ref q1) (C := RX1) (T := TX1) (N := 4) hx hb hts in_X1 hown hK hP 0 rfl rfl 0 (by decide) (hts _ q154) (fun _ h9 => h9) rfl dX1_arc_40 ?_
        refine lv_iload_n hx hb dX1_arc_43 rfl (lv_at hl 2 rfl) ?_
        refine il_ld hx hb hK hP 1 0 rfl rfl ha (by decide) dX1_arc_44 ?_
        refine lv_iconst (v := 1) hx hb dX1_arc_45 (by decide) ?_
        refine lv_iload_n hx hb dX1_arc_46 rfl (lv_at hl 3 rfl) ?_
        refine lv_ishl hx hb dX1_arc_47 ?_
        refine lv_ior hx hb dX1_arc_48 ?_
        refine lv_goto (tgt := 64) hx hb dX1_arc_49 (by decide) ?_
        refine il_st hx hb hK hP hD hS 1 0 rfl rfl ha (by decide) dX1_arc_64 (fun H locs hP hD hS => ?_)
        have hP : va_P (dC, dI) vwCl (WY h0 q1 q2 q3 q4 d (upd nx a ((nx a) ||| (il_o b))) us se lv) H := hP
        have hD : va_D A (WY h0 q1 q2 q3 q4 d (upd nx a ((nx a) ||| (il_o b))) us se lv) := hD
        refine lv_iload hx hb dX1_arc_65 (lv_at hl 0 rfl) ?_
        exact il_retiM hx hb hr hlocks dX1_arc_67 hQ hK hP hD hS (by rw [im_arc, if_neg c5, if_neg c13, il_nat_nI (i := a) (by omega), il_nat_nI (i := b) (by omega), im_put, if_neg c36]) (by rw [im_arcR, if_neg c5, if_neg c13, il_nat_nI (i := a) (by omega), il_nat_nI (i := b) (by omega)])
    · have c13 : im_isB p1 = 0 := c13
      refine lv_iconst (v := (-1)) hx hb dX1_arc_16 (by decide) ?_
      exact il_retiM hx hb hr hlocks dX1_arc_17 hQ hK hP hD hS (by rw [im_arc, if_neg c5, if_pos c13]) (by rw [im_arcR, if_neg c5, if_pos c13])
abbrev wsX1_hasArc : List Cond := ws_ yX1_hasArc cX1_hasArc 3 (some .boolean)
abbrev rmX1_hasArc : Room := il_rm 1 22
set_option maxHeartbeats 4000000 in
set_option maxRecDepth 100000 in
/-- hasArc(a, b) -/
theorem metX1_hasArc (l : Launch) (dC : Nat → ClassId) (dI : Nat → Nat → Nat) (h0 q1 q2 q3 q4 : Nat) (d : ClassId) (nx us se lv : il_F) (p0 p1 : Int32) : Met l yX1_hasArc wsX1_hasArc rmX1_hasArc (il_PR dC dI (WY h0 q1 q2 q3 q4 d nx us se lv) d [.ref h0, .int p0, .int p1]) (vp_Si (fun r => r = im_hasArc nx p0 p1)) 0 0 (fun _ => False) := by
  refine Met.ofW (cc := cX1_hasArc) (maxL := 3) (ret := (some .boolean)) (by decide) rfl ?_
  intro p e s m args below meth c s₁ B hml hv
  obtain ⟨hargs, hP, hK⟩ := hv
  have hx := B.exec
  have hb := B.bytes
  have hr := B.returns
  have hlocks := B.notSynchronized
  have hts : ∀ w ∈ lw_all, w.before args s = true := fun w h => atoms_spec (ws := wsX1_hasArc) B.pre w (List.mem_cons_of_mem _ h)
  have hown : s.vm.findClass RX1 = some m.cls := findClass_of_methodNamed B.named
  have hF : CallFix p m c cX1_hasArc 3 s args lw_all RX1 := ⟨hx, hb, hml, hown, hts⟩
  refine il_entry (n := 3) (vs := [.ref h0, .int p0, .int p1]) (Nat.le_of_ble_eq_true rfl) hargs (fun ls hl => ?_)
  have hl : lv_has ls 3 [(0, .ref h0), (1, .int p0), (2, .int p1)] := hl
  generalize hQ : MQ below (vp_Si (fun r => r = im_hasArc nx p0 p1)) args s 0 0 (fun _ => False) = Q
  refine lv_aload_n hx hb dX1_hasArc_0 rfl (lv_at hl 0 rfl) ?_
  refine lv_iload_n hx hb dX1_hasArc_1 rfl (lv_at hl 1 rfl) ?_
  refine il_callR (As := [.int p0]) (rest := []) (v := im_isB p0) hF hK hP 1 rfl rfl (metX1_isBlock l dC dI h0 q1 q2 q3 q4 d nx us se lv p0) (cwV 1 hts (lw_V q171 q173 qs11 q21 q174) rfl rfl rfl (by decide +kernel) ⟨Nat.le_of_ble_eq_true rfl, Nat.le_of_ble_eq_true rfl⟩) rfl hl.1 (Nat.le_of_ble_eq_true rfl) dX1_hasArc_2 ⟨Nat.le_of_ble_eq_true rfl, Nat.le_of_ble_eq_true rfl⟩ rfl ?_
  refine lv_if_eq (tgt := 34) hx hb dX1_hasArc_5 (by decide) (fun c5 => ?_) (fun c5 => ?_)
  · have c5 : im_isB p0 = 0 := c5
    refine lv_iconst (v := 0) hx hb dX1_hasArc_34 (by decide) ?_
    exact il_retz hx hb hr hlocks dX1_hasArc_35 hQ rfl (by rw [im_hasArc, if_pos c5])
  · have c5 : ¬ im_isB p0 = 0 := c5
    obtain ⟨a, ha, rfl⟩ := im_isB_in c5
    refine lv_aload_n hx hb dX1_hasArc_8 rfl (lv_at hl 0 rfl) ?_
    refine lv_iload_n hx hb dX1_hasArc_9 rfl (lv_at hl 2 rfl) ?_
    refine il_callR (As := [.int p1]) (rest := []) (v := im_isB p1) hF hK hP 1 rfl rfl (metX1_isBlock l dC dI h0 q1 q2 q3 q4 d nx us se lv p1) (cwV 1 hts (lw_V q171 q173 qs11 q21 q174) rfl rfl rfl (by decide +kernel) ⟨Nat.le_of_ble_eq_true rfl, Nat.le_of_ble_eq_true rfl⟩) rfl hl.1 (Nat.le_of_ble_eq_true rfl) dX1_hasArc_10 ⟨Nat.le_of_ble_eq_true rfl, Nat.le_of_ble_eq_true rfl⟩ rfl ?_
    refine lv_if_eq (tgt := 34) hx hb dX1_hasArc_13 (by decide) (fun c13 => ?_) (fun c13 => ?_)
    · have c13 : im_isB p1 = 0 := c13
      refine lv_iconst (v := 0) hx hb dX1_hasArc_34 (by decide) ?_
      exact il_retz hx hb hr hlocks dX1_hasArc_35 hQ rfl (by rw [im_hasArc, if_neg c5, if_pos c13])
    · have c13 : ¬ im_isB p1 = 0 := c13
      obtain ⟨b, hb12, rfl⟩ := im_isB_in c13
      refine lv_aload_n hx hb dX1_hasArc_16 rfl (lv_at hl 0 rfl) ?_
      refine lv_aload_n hx hb dX1_hasArc_17 rfl (lv_at hl 0 rfl) ?_
      refine va_get (D := (dC, dI)) (ci := 1) (v := .ref q1) (C := RX1) (T := TX1) (N := 4) hx hb hts in_X1 hown hK hP 0 rfl rfl 0 (by decide) (hts _ q154) (fun _ h9 => h9) rfl dX1_hasArc_18 ?_
      refine lv_iload_n hx hb dX1_hasArc_21 rfl (lv_at hl 1 rfl) ?_
      refine il_ld hx hb hK hP 1 0 rfl rfl ha (by decide) dX1_hasArc_22 ?_
      refine lv_iload_n hx hb dX1_hasArc_23 rfl (lv_at hl 2 rfl) ?_
      refine il_callR (As := [.int (nx a), .int (nI b)]) (rest := []) (v := im_has (nx a) b) hF hK hP 1 rfl rfl (metX1_has l dC dI h0 q1 q2 q3 q4 d nx us se lv (nx a) b) (cwV 2 hts (lw_V q179 q181 qs12 q21 q182) rfl rfl rfl (by decide +kernel) ⟨Nat.le_of_ble_eq_true rfl, Nat.le_of_ble_eq_true rfl⟩) rfl hl.1 (Nat.le_of_ble_eq_true rfl) dX1_hasArc_24 ⟨Nat.le_of_ble_eq_true rfl, Nat.le_of_ble_eq_true rfl⟩ rfl ?_
      refine lv_if_eq (tgt := 34) hx hb dX1_hasArc_27 (by decide) (fun c27 => ?_) (fun c27 => ?_)
      · have c27 : im_has (nx a) b = 0 := c27
        refine lv_iconst (v := 0) hx hb dX1_hasArc_34 (by decide) ?_
        exact il_retz hx hb hr hlocks dX1_hasArc_35 hQ rfl (by rw [im_hasArc, if_neg c5, if_neg c13, il_nat_nI (i := a) (by omega), il_nat_nI (i := b) (by omega), if_pos c27])
      · have c27 : ¬ im_has (nx a) b = 0 := c27
        refine lv_iconst (v := 1) hx hb dX1_hasArc_30 (by decide) ?_
        refine lv_goto (tgt := 35) hx hb dX1_hasArc_31 (by decide) ?_
        exact il_retz hx hb hr hlocks dX1_hasArc_35 hQ rfl (by rw [im_hasArc, if_neg c5, if_neg c13, il_nat_nI (i := a) (by omega), il_nat_nI (i := b) (by omega), if_neg c27])
abbrev wsX1_use : List Cond := ws_ yX1_use cX1_use 5 (some .int)
abbrev rmX1_use : Room := il_rm 1 21
set_option maxHeartbeats 4000000 in
set_option maxRecDepth 100000 in
/-- use(b, v, on) -/
theorem metX1_use (l : Launch) (dC : Nat → ClassId) (dI : Nat → Nat → Nat) (h0 q1 q2 q3 q4 : Nat) (d : ClassId) (sz : Nat) (nx us se lv : il_F) (p0 p1 p2 : Int32) : Met l yX1_use wsX1_use rmX1_use (il_PM dC dI (WY h0 q1 q2 q3 q4 d nx us se lv) d sz [.ref h0, .int p0, .int p1, .int p2]) (va_Qi (fun (r : Int32) (_ : Unit) => r = im_useR us p0 p1) (il_B dC dI (va_A (WY h0 q1 q2 q3 q4 d nx us se lv) sz) (WY h0 q1 q2 q3 q4 d nx (im_use us p0 p1 p2) se lv) d) (va_A (WY h0 q1 q2 q3 q4 d nx us se lv) sz)) 0 0 (va_A (WY h0 q1 q2 q3 q4 d nx us se lv) sz) := by
  refine Met.ofW (cc := cX1_use) (maxL := 5) (ret := (some .int)) (by decide) rfl ?_
  intro p e s m args below meth c s₁ B hml hv
  obtain ⟨hargs, hsz, hP, hK, hD0⟩ := hv
  have hx := B.exec
  have hb := B.bytes
  have hr := B.returns
  have hlocks := B.notSynchronized
  have hts : ∀ w ∈ lw_all, w.before args s = true := fun w h => atoms_spec (ws := wsX1_use) B.pre w (List.mem_cons_of_mem _ h)
  have hown : s.vm.findClass RX1 = some m.cls := findClass_of_methodNamed B.named
  have hF : CallFix p m c cX1_use 5 s args lw_all RX1 := ⟨hx, hb, hml, hown, hts⟩
  subst hsz
  have hD := hD0.self (sz := s.heap.size)
  generalize hAe : va_A (WY h0 q1 q2 q3 q4 d nx us se lv) s.heap.size = A at hD ⊢
  have hA : ∀ q : Nat, s.heap.size ≤ q → A q := fun q h => by rw [← hAe]; exact Or.inr h
  have hS : va_S A s.heap s.heap [] := va_S.rf
  refine il_entry (n := 5) (vs := [.ref h0, .int p0, .int p1, .int p2]) (Nat.le_of_ble_eq_true rfl) hargs (fun ls hl => ?_)
  have hl : lv_has ls 5 [(0, .ref h0), (1, .int p0), (2, .int p1), (3, .int p2)] := hl
  generalize hQ : MQ below (va_Qi (fun (r : Int32) (_ : Unit) => r = im_useR us p0 p1) (il_B dC dI A (WY h0 q1 q2 q3 q4 d nx (im_use us p0 p1 p2) se lv) d) A) args s 0 0 A = Q
  have hP : va_P (dC, dI) vwCl (WY h0 q1 q2 q3 q4 d nx us se lv) s.heap := hP
  refine lv_aload_n hx hb dX1_use_0 rfl (lv_at hl 0 rfl) ?_
  refine lv_iload_n hx hb dX1_use_1 rfl (lv_at hl 1 rfl) ?_
  refine il_callR (As := [.int p0]) (rest := []) (v := im_isB p0) hF hK hP 1 rfl rfl (metX1_isBlock l dC dI h0 q1 q2 q3 q4 d nx us se lv p0) (cwV 1 hts (lw_V q171 q173 qs11 q21 q174) rfl rfl rfl (by decide +kernel) ⟨Nat.le_of_ble_eq_true rfl, Nat.le_of_ble_eq_true rfl⟩) rfl hl.1 (Nat.le_of_ble_eq_true rfl) dX1_use_2 ⟨Nat.le_of_ble_eq_true rfl, Nat.le_of_ble_eq_true rfl⟩ rfl ?_
  refine lv_if_eq (tgt := 16) hx hb dX1_use_5 (by decide) (fun c5 => ?_) (fun c5 => ?_)
  · have c5 : im_isB p0 = 0 := c5
    refine lv_iconst (v := (-1)) hx hb dX1_use_16 (by decide) ?_
    exact il_retiM hx hb hr hlocks dX1_use_17 hQ hK hP hD hS (by rw [im_use, if_pos c5]) (by rw [im_useR, if_pos c5])
  · have c5 : ¬ im_isB p0 = 0 := c5
    obtain ⟨b, hb12, rfl⟩ := im_isB_in c5
    refine lv_aload_n hx hb dX1_use_8 rfl (lv_at hl 0 rfl) ?_
    refine lv_iload_n hx hb dX1_use_9 rfl (lv_at hl 2 rfl) ?_
    refine il_callR (As := [.int p1]) (rest := []) (v := im_isV p1) hF hK hP 1 rfl rfl (metX1_isVariable l dC dI h0 q1 q2 q3 q4 d nx us se lv p1) (cwV 1 hts (lw_V q187 q189 qs13 q21 q190) rfl rfl rfl (by decide +kernel) ⟨Nat.le_of_ble_eq_true rfl, Nat.le_of_ble_eq_true rfl⟩) rfl hl.1 (Nat.le_of_ble_eq_true rfl) dX1_use_10 ⟨Nat.le_of_ble_eq_true rfl, Nat.le_of_ble_eq_true rfl⟩ rfl ?_
    refine lv_if_ne (tgt := 18) hx hb dX1_use_13 (by decide) (fun c13 => ?_) (fun c13 => ?_)
    · have c13 : ¬ im_isV p1 = 0 := c13
      obtain ⟨v, hv20, rfl⟩ := im_isV_in c13
      refine lv_aload_n hx hb dX1_use_18 rfl (lv_at hl 0 rfl) ?_
      refine va_get (D := (dC, dI)) (ci := 1) (v := .ref q2) (C := RX1) (T := TX1) (N := 4) hx hb hts in_X1 hown hK hP 0 rfl rfl 1 (by decide) (hts _ q155) (fun _ h9 => h9) rfl dX1_use_19 ?_
      refine lv_iload_n hx hb dX1_use_22 rfl (lv_at hl 1 rfl) ?_
      refine il_ld hx hb hK hP 2 0 rfl rfl hb12 (by decide) dX1_use_23 ?_
      refine lv_iload_n hx hb dX1_use_24 rfl (lv_at hl 2 rfl) ?_
      refine lv_ishr hx hb dX1_use_25 ?_
      refine lv_iconst (v := 1) hx hb dX1_use_26 (by decide) ?_
      refine lv_iand hx hb dX1_use_27 ?_
      refine lv_istore (lv' := [(4, .int (il_b (us b) v)), (0, .ref h0), (1, .int (nI b)), (2, .int (nI v)), (3, .int p2)]) hx hb dX1_use_28 hl (by decide) rfl (fun ls hl => ?_)
      refine lv_aload_n hx hb dX1_use_30 rfl (lv_at hl 1 rfl) ?_
      refine va_get (D := (dC, dI)) (ci := 1) (v := .ref q2) (C := RX1) (T := TX1) (N := 4) hx hb hts in_X1 hown hK hP 0 rfl rfl 1 (by decide) (hts _ q155) (fun _ h9 => h9) rfl dX1_use_31 ?_
      refine lv_iload_n hx hb dX1_use_34 rfl (lv_at hl 2 rfl) ?_
      refine lv_iload_n hx hb dX1_use_35 rfl (lv_at hl 4 rfl) ?_
      refine lv_if_eq (tgt := 52) hx hb dX1_use_36 (by decide) (fun c36 => ?_) (fun c36 => ?_)
      · have c36 : p2 = 0 := c36
        refine lv_aload_n hx hb dX1_use_52 rfl (lv_at hl 1 rfl) ?_
        refine va_get (D := (dC, dI)) (ci := 1) (v := .ref q2) (C := RX1) (T := TX1) (N := 4) hx hb hts in_X1 hown hK hP 0 rfl rfl 1 (by decide) (hts _ q155) (fun _ h9 => h9) rfl dX1_use_53 ?_
        refine lv_iload_n hx hb dX1_use_56 rfl (lv_at hl 2 rfl) ?_
        refine il_ld hx hb hK hP 2 0 rfl rfl hb12 (by decide) dX1_use_57 ?_
        refine lv_iconst (v := 1) hx hb dX1_use_58 (by decide) ?_
        refine lv_iload_n hx hb dX1_use_59 rfl (lv_at hl 3 rfl) ?_
        refine lv_ishl hx hb dX1_use_60 ?_
        refine lv_iconst (v := (-1)) hx hb dX1_use_61 (by decide) ?_
        refine lv_ixor hx hb dX1_use_62 ?_
        refine lv_iand hx hb dX1_use_63 ?_
        refine il_st hx hb hK hP hD hS 2 0 rfl rfl hb12 (by decide) dX1_use_64 (fun H locs hP hD hS => ?_)
        have hP : va_P (dC, dI) vwCl (WY h0 q1 q2 q3 q4 d nx (upd us b ((us b) &&& (il_n (il_o v)))) se lv) H := hP
        have hD : va_D A (WY h0 q1 q2 q3 q4 d nx (upd us b ((us b) &&& (il_n (il_o v)))) se lv) := hD
        refine lv_iload hx hb dX1_use_65 (lv_at hl 0 rfl) ?_
        exact il_retiM hx hb hr hlocks dX1_use_67 hQ hK hP hD hS (by rw [im_use, if_neg c5, if_neg c13, il_nat_nI (i := b) (by omega), il_nat_nI (i := v) (by omega), im_put, if_pos c36]) (by rw [im_useR, if_neg c5, if_neg c13, il_nat_nI (i := b) (by omega), il_nat_nI (i := v) (by omega)])
      · have c36 : ¬ p2 = 0 := c36
        refine lv_aload_n hx hb dX1_use_39 rfl (lv_at hl 1 rfl) ?_
        refine va_get (D := (dC, dI)) (ci := 1) (v := .ref q2) (C := RX1) (T := TX1) (N := 4) hx hb hts in_X1 hown hK hP 0 rfl rfl 1 (by decide) (hts _ q155) (fun _ h9 => h9) rfl dX1_use_40 ?_
        refine lv_iload_n hx hb dX1_use_43 rfl (lv_at hl 2 rfl) ?_
        refine il_ld hx hb hK hP 2 0 rfl rfl hb12 (by decide) dX1_use_44 ?_
        refine lv_iconst (v := 1) hx hb dX1_use_45 (by decide) ?_
        refine lv_iload_n hx hb dX1_use_46 rfl (lv_at hl 3 rfl) ?_
        refine lv_ishl hx hb dX1_use_47 ?_
        refine lv_ior hx hb dX1_use_48 ?_
        refine lv_goto (tgt := 64) hx hb dX1_use_49 (by decide) ?_
        refine il_st hx hb hK hP hD hS 2 0 rfl rfl hb12 (by decide) dX1_use_64 (fun H locs hP hD hS => ?_)
        have hP : va_P (dC, dI) vwCl (WY h0 q1 q2 q3 q4 d nx (upd us b ((us b) ||| (il_o v))) se lv) H := hP
        have hD : va_D A (WY h0 q1 q2 q3 q4 d nx (upd us b ((us b) ||| (il_o v))) se lv) := hD
        refine lv_iload hx hb dX1_use_65 (lv_at hl 0 rfl) ?_
        exact il_retiM hx hb hr hlocks dX1_use_67 hQ hK hP hD hS (by rw [im_use, if_neg c5, if_neg c13, il_nat_nI (i := b) (by omega), il_nat_nI (i := v) (by omega), im_put, if_neg c36]) (by rw [im_useR, if_neg c5, if_neg c13, il_nat_nI (i := b) (by omega), il_nat_nI (i := v) (by omega)])
    · have c13 : im_isV p1 = 0 := c13
      refine lv_iconst (v := (-1)) hx hb dX1_use_16 (by decide) ?_
      exact il_retiM hx hb hr hlocks dX1_use_17 hQ hK hP hD hS (by rw [im_use, if_neg c5, if_pos c13]) (by rw [im_useR, if_neg c5, if_pos c13])
abbrev wsX1_set : List Cond := ws_ yX1_set cX1_set 5 (some .int)
abbrev rmX1_set : Room := il_rm 1 21
set_option maxHeartbeats 4000000 in
set_option maxRecDepth 100000 in
/-- set(b, v, on) -/
theorem metX1_set (l : Launch) (dC : Nat → ClassId) (dI : Nat → Nat → Nat) (h0 q1 q2 q3 q4 : Nat) (d : ClassId) (sz : Nat) (nx us se lv : il_F) (p0 p1 p2 : Int32) : Met l yX1_set wsX1_set rmX1_set (il_PM dC dI (WY h0 q1 q2 q3 q4 d nx us se lv) d sz [.ref h0, .int p0, .int p1, .int p2]) (va_Qi (fun (r : Int32) (_ : Unit) => r = im_useR se p0 p1) (il_B dC dI (va_A (WY h0 q1 q2 q3 q4 d nx us se lv) sz) (WY h0 q1 q2 q3 q4 d nx us (im_use se p0 p1 p2) lv) d) (va_A (WY h0 q1 q2 q3 q4 d nx us se lv) sz)) 0 0 (va_A (WY h0 q1 q2 q3 q4 d nx us se lv) sz) := by
  refine Met.ofW (cc := cX1_set) (maxL := 5) (ret := (some .int)) (by decide) rfl ?_
  intro p e s m args below meth c s₁ B hml hv
  obtain ⟨hargs, hsz, hP, hK, hD0⟩ := hv
  have hx := B.exec
  have hb := B.bytes
  have hr := B.returns
  have hlocks := B.notSynchronized
  have hts : ∀ w ∈ lw_all, w.before args s = true := fun w h => atoms_spec (ws := wsX1_set) B.pre w (List.mem_cons_of_mem _ h)
  have hown : s.vm.findClass RX1 = some m.cls := findClass_of_methodNamed B.named
  have hF : CallFix p m c cX1_set 5 s args lw_all RX1 := ⟨hx, hb, hml, hown, hts⟩
  subst hsz
  have hD := hD0.self (sz := s.heap.size)
  generalize hAe : va_A (WY h0 q1 q2 q3 q4 d nx us se lv) s.heap.size = A at hD ⊢
  have hA : ∀ q : Nat, s.heap.size ≤ q → A q := fun q h => by rw [← hAe]; exact Or.inr h
  have hS : va_S A s.heap s.heap [] := va_S.rf
  refine il_entry (n := 5) (vs := [.ref h0, .int p0, .int p1, .int p2]) (Nat.le_of_ble_eq_true rfl) hargs (fun ls hl => ?_)
  have hl : lv_has ls 5 [(0, .ref h0), (1, .int p0), (2, .int p1), (3, .int p2)] := hl
  generalize hQ : MQ below (va_Qi (fun (r : Int32) (_ : Unit) => r = im_useR se p0 p1) (il_B dC dI A (WY h0 q1 q2 q3 q4 d nx us (im_use se p0 p1 p2) lv) d) A) args s 0 0 A = Q
  have hP : va_P (dC, dI) vwCl (WY h0 q1 q2 q3 q4 d nx us se lv) s.heap := hP
  refine lv_aload_n hx hb dX1_set_0 rfl (lv_at hl 0 rfl) ?_
  refine lv_iload_n hx hb dX1_set_1 rfl (lv_at hl 1 rfl) ?_
  refine il_callR (As := [.int p0]) (rest := []) (v := im_isB p0) hF hK hP 1 rfl rfl (metX1_isBlock l dC dI h0 q1 q2 q3 q4 d nx us se lv p0) (cwV 1 hts (lw_V q171 q173 qs11 q21 q174) rfl rfl rfl (by decide +kernel) ⟨Nat.le_of_ble_eq_true rfl, Nat.le_of_ble_eq_true rfl⟩) rfl hl.1 (Nat.le_of_ble_eq_true rfl) dX1_set_2 ⟨Nat.le_of_ble_eq_true rfl, Nat.le_of_ble_eq_true rfl⟩ rfl ?_
  refine lv_if_eq (tgt := 16) hx hb dX1_set_5 (by decide) (fun c5 => ?_) (fun c5 => ?_)
  · have c5 : im_isB p0 = 0 := c5
    refine lv_iconst (v := (-1)) hx hb dX1_set_16 (by decide) ?_
    exact il_retiM hx hb hr hlocks dX1_set_17 hQ hK hP hD hS (by rw [im_use, if_pos c5]) (by rw [im_useR, if_pos c5])
  · have c5 : ¬ im_isB p0 = 0 := c5
    obtain ⟨b, hb12, rfl⟩ := im_isB_in c5
    refine lv_aload_n hx hb dX1_set_8 rfl (lv_at hl 0 rfl) ?_
    refine lv_iload_n hx hb dX1_set_9 rfl (lv_at hl 2 rfl) ?_
    refine il_callR (As := [.int p1]) (rest := []) (v := im_isV p1) hF hK hP 1 rfl rfl (metX1_isVariable l dC dI h0 q1 q2 q3 q4 d nx us se lv p1) (cwV 1 hts (lw_V q187 q189 qs13 q21 q190) rfl rfl rfl (by decide +kernel) ⟨Nat.le_of_ble_eq_true rfl, Nat.le_of_ble_eq_true rfl⟩) rfl hl.1 (Nat.le_of_ble_eq_true rfl) dX1_set_10 ⟨Nat.le_of_ble_eq_true rfl, Nat.le_of_ble_eq_true rfl⟩ rfl ?_
    refine lv_if_ne (tgt := 18) hx hb dX1_set_13 (by decide) (fun c13 => ?_) (fun c13 => ?_)
    · have c13 : ¬ im_isV p1 = 0 := c13
      obtain ⟨v, hv20, rfl⟩ := im_isV_in c13
      refine lv_aload_n hx hb dX1_set_18 rfl (lv_at hl 0 rfl) ?_
      refine va_get (D := (dC, dI)) (ci := 1) (v := .ref q3) (C := RX1) (T := TX1) (N := 4) hx hb hts in_X1 hown hK hP 0 rfl rfl 2 (by decide) (hts _ q156) (fun _ h9 => h9) rfl dX1_set_19 ?_
      refine lv_iload_n hx hb dX1_set_22 rfl (lv_at hl 1 rfl) ?_
      refine il_ld hx hb hK hP 3 0 rfl rfl hb12 (by decide) dX1_set_23 ?_
      refine lv_iload_n hx hb dX1_set_24 rfl (lv_at hl 2 rfl) ?_
      refine lv_ishr hx hb dX1_set_25 ?_
      refine lv_iconst (v := 1) hx hb dX1_set_26 (by decide) ?_
      refine lv_iand hx hb dX1_set_27 ?_
      refine lv_istore (lv' := [(4, .int (il_b (se b) v)), (0, .ref h0), (1, .int (nI b)), (2, .int (nI v)), (3, .int p2)]) hx hb dX1_set_28 hl (by decide) rfl (fun ls hl => ?_)
      refine lv_aload_n hx hb dX1_set_30 rfl (lv_at hl 1 rfl) ?_
      refine va_get (D := (dC, dI)) (ci := 1) (v := .ref q3) (C := RX1) (T := TX1) (N := 4) hx hb hts in_X1 hown hK hP 0 rfl rfl 2 (by decide) (hts _ q156) (fun _ h9 => h9) rfl dX1_set_31 ?_
      refine lv_iload_n hx hb dX1_set_34 rfl (lv_at hl 2 rfl) ?_
      refine lv_iload_n hx hb dX1_set_35 rfl (lv_at hl 4 rfl) ?_
      refine lv_if_eq (tgt := 52) hx hb dX1_set_36 (by decide) (fun c36 => ?_) (fun c36 => ?_)
      · have c36 : p2 = 0 := c36
        refine lv_aload_n hx hb dX1_set_52 rfl (lv_at hl 1 rfl) ?_
        refine va_get (D := (dC, dI)) (ci := 1) (v := .ref q3) (C := RX1) (T := TX1) (N := 4) hx hb hts in_X1 hown hK hP 0 rfl rfl 2 (by decide) (hts _ q156) (fun _ h9 => h9) rfl dX1_set_53 ?_
        refine lv_iload_n hx hb dX1_set_56 rfl (lv_at hl 2 rfl) ?_
        refine il_ld hx hb hK hP 3 0 rfl rfl hb12 (by decide) dX1_set_57 ?_
        refine lv_iconst (v := 1) hx hb dX1_set_58 (by decide) ?_
        refine lv_iload_n hx hb dX1_set_59 rfl (lv_at hl 3 rfl) ?_
        refine lv_ishl hx hb dX1_set_60 ?_
        refine lv_iconst (v := (-1)) hx hb dX1_set_61 (by decide) ?_
        refine lv_ixor hx hb dX1_set_62 ?_
        refine lv_iand hx hb dX1_set_63 ?_
        refine il_st hx hb hK hP hD hS 3 0 rfl rfl hb12 (by decide) dX1_set_64 (fun H locs hP hD hS => ?_)
        have hP : va_P (dC, dI) vwCl (WY h0 q1 q2 q3 q4 d nx us (upd se b ((se b) &&& (il_n (il_o v)))) lv) H := hP
        have hD : va_D A (WY h0 q1 q2 q3 q4 d nx us (upd se b ((se b) &&& (il_n (il_o v)))) lv) := hD
        refine lv_iload hx hb dX1_set_65 (lv_at hl 0 rfl) ?_
        exact il_retiM hx hb hr hlocks dX1_set_67 hQ hK hP hD hS (by rw [im_use, if_neg c5, if_neg c13, il_nat_nI (i := b) (by omega), il_nat_nI (i := v) (by omega), im_put, if_pos c36]) (by rw [im_useR, if_neg c5, if_neg c13, il_nat_nI (i := b) (by omega), il_nat_nI (i := v) (by omega)])
      · have c36 : ¬ p2 = 0 := c36
        refine lv_aload_n hx hb dX1_set_39 rfl (lv_at hl 1 rfl) ?_
        refine va_get (D := (dC, dI)) (ci := 1) (v := .ref q3) (C := RX1) (T := TX1) (N := 4) hx hb hts in_X1 hown hK hP 0 rfl rfl 2 (by decide) (hts _ q156) (fun _ h9 => h9) rfl dX1_set_40 ?_
        refine lv_iload_n hx hb dX1_set_43 rfl (lv_at hl 2 rfl) ?_
        refine il_ld hx hb hK hP 3 0 rfl rfl hb12 (by decide) dX1_set_44 ?_
        refine lv_iconst (v := 1) hx hb dX1_set_45 (by decide) ?_
        refine lv_iload_n hx hb dX1_set_46 rfl (lv_at hl 3 rfl) ?_
        refine lv_ishl hx hb dX1_set_47 ?_
        refine lv_ior hx hb dX1_set_48 ?_
        refine lv_goto (tgt := 64) hx hb dX1_set_49 (by decide) ?_
        refine il_st hx hb hK hP hD hS 3 0 rfl rfl hb12 (by decide) dX1_set_64 (fun H locs hP hD hS => ?_)
        have hP : va_P (dC, dI) vwCl (WY h0 q1 q2 q3 q4 d nx us (upd se b ((se b) ||| (il_o v))) lv) H := hP
        have hD : va_D A (WY h0 q1 q2 q3 q4 d nx us (upd se b ((se b) ||| (il_o v))) lv) := hD
        refine lv_iload hx hb dX1_set_65 (lv_at hl 0 rfl) ?_
        exact il_retiM hx hb hr hlocks dX1_set_67 hQ hK hP hD hS (by rw [im_use, if_neg c5, if_neg c13, il_nat_nI (i := b) (by omega), il_nat_nI (i := v) (by omega), im_put, if_neg c36]) (by rw [im_useR, if_neg c5, if_neg c13, il_nat_nI (i := b) (by omega), il_nat_nI (i := v) (by omega)])
    · have c13 : im_isV p1 = 0 := c13
      refine lv_iconst (v := (-1)) hx hb dX1_set_16 (by decide) ?_
      exact il_retiM hx hb hr hlocks dX1_set_17 hQ hK hP hD hS (by rw [im_use, if_neg c5, if_pos c13]) (by rw [im_useR, if_neg c5, if_pos c13])
abbrev wsX1_block : List Cond := ws_ yX1_block cX1_block 4 (some .int)
abbrev rmX1_block : Room := il_rm 1 21
set_option maxHeartbeats 4000000 in
set_option maxRecDepth 100000 in
/-- block(b, uses, sets) -/
theorem metX1_block (l : Launch) (dC : Nat → ClassId) (dI : Nat → Nat → Nat) (h0 q1 q2 q3 q4 : Nat) (d : ClassId) (sz : Nat) (nx us se lv : il_F) (p0 p1 p2 : Int32) : Met l yX1_block wsX1_block rmX1_block (il_PM dC dI (WY h0 q1 q2 q3 q4 d nx us se lv) d sz [.ref h0, .int p0, .int p1, .int p2]) (va_Qi (fun (r : Int32) (_ : Unit) => r = im_blockR p0 p1 p2) (il_B dC dI (va_A (WY h0 q1 q2 q3 q4 d nx us se lv) sz) (WY h0 q1 q2 q3 q4 d nx (im_blockU us p0 p1 p2) (im_blockS se p0 p1 p2) lv) d) (va_A (WY h0 q1 q2 q3 q4 d nx us se lv) sz)) 0 0 (va_A (WY h0 q1 q2 q3 q4 d nx us se lv) sz) := by
  refine Met.ofW (cc := cX1_block) (maxL := 4) (ret := (some .int)) (by decide) rfl ?_
  intro p e s m args below meth c s₁ B hml hv
  obtain ⟨hargs, hsz, hP, hK, hD0⟩ := hv
  have hx := B.exec
  have hb := B.bytes
  have hr := B.returns
  have hlocks := B.notSynchronized
  have hts : ∀ w ∈ lw_all, w.before args s = true := fun w h => atoms_spec (ws := wsX1_block) B.pre w (List.mem_cons_of_mem _ h)
  have hown : s.vm.findClass RX1 = some m.cls := findClass_of_methodNamed B.named
  have hF : CallFix p m c cX1_block 4 s args lw_all RX1 := ⟨hx, hb, hml, hown, hts⟩
  subst hsz
  have hD := hD0.self (sz := s.heap.size)
  generalize hAe : va_A (WY h0 q1 q2 q3 q4 d nx us se lv) s.heap.size = A at hD ⊢
  have hA : ∀ q : Nat, s.heap.size ≤ q → A q := fun q h => by rw [← hAe]; exact Or.inr h
  have hS : va_S A s.heap s.heap [] := va_S.rf
  refine il_entry (n := 4) (vs := [.ref h0, .int p0, .int p1, .int p2]) (Nat.le_of_ble_eq_true rfl) hargs (fun ls hl => ?_)
  have hl : lv_has ls 4 [(0, .ref h0), (1, .int p0), (2, .int p1), (3, .int p2)] := hl
  generalize hQ : MQ below (va_Qi (fun (r : Int32) (_ : Unit) => r = im_blockR p0 p1 p2) (il_B dC dI A (WY h0 q1 q2 q3 q4 d nx (im_blockU us p0 p1 p2) (im_blockS se p0 p1 p2) lv) d) A) args s 0 0 A = Q
  have hP : va_P (dC, dI) vwCl (WY h0 q1 q2 q3 q4 d nx us se lv) s.heap := hP
  refine lv_aload_n hx hb dX1_block_0 rfl (lv_at hl 0 rfl) ?_
  refine lv_iload_n hx hb dX1_block_1 rfl (lv_at hl 1 rfl) ?_
  refine il_callR (As := [.int p0]) (rest := []) (v := im_isB p0) hF hK hP 1 rfl rfl (metX1_isBlock l dC dI h0 q1 q2 q3 q4 d nx us se lv p0) (cwV 1 hts (lw_V q171 q173 qs11 q21 q174) rfl rfl rfl (by decide +kernel) ⟨Nat.le_of_ble_eq_true rfl, Nat.le_of_ble_eq_true rfl⟩) rfl hl.1 (Nat.le_of_ble_eq_true rfl) dX1_block_2 ⟨Nat.le_of_ble_eq_true rfl, Nat.le_of_ble_eq_true rfl⟩ rfl ?_
  refine lv_if_eq (tgt := 28) hx hb dX1_block_5 (by decide) (fun c5 => ?_) (fun c5 => ?_)
  · have c5 : im_isB p0 = 0 := c5
    refine lv_iconst (v := (-1)) hx hb dX1_block_28 (by decide) ?_
    exact il_retiM hx hb hr hlocks dX1_block_29 hQ hK hP hD hS (by rw [im_blockU, if_pos c5, im_blockS, if_pos c5]) (by rw [im_blockR, if_pos c5])
  · have c5 : ¬ im_isB p0 = 0 := c5
    obtain ⟨b, hb12, rfl⟩ := im_isB_in c5
    refine lv_iload_n hx hb dX1_block_8 rfl (lv_at hl 2 rfl) ?_
    refine lv_if_lt (tgt := 28) hx hb dX1_block_9 (by decide) (fun c9 => ?_) (fun c9 => ?_)
    · have c9 : p1 < 0 := c9
      refine lv_iconst (v := (-1)) hx hb dX1_block_28 (by decide) ?_
      exact il_retiM hx hb hr hlocks dX1_block_29 hQ hK hP hD hS (by rw [im_blockU, if_neg c5, if_pos c9, im_blockS, if_neg c5, if_pos c9]) (by rw [im_blockR, if_neg c5, if_pos c9])
    · have c9 : ¬ p1 < 0 := c9
      refine lv_iload_n hx hb dX1_block_12 rfl (lv_at hl 2 rfl) ?_
      refine lv_ldc (v := 1048575) hx hb hown (hts _ q199) dX1_block_13 ?_
      refine lv_icmp_gt (tgt := 28) hx hb dX1_block_15 (by decide) (fun c15 => ?_) (fun c15 => ?_)
      · have c15 : 1048575 < p1 := c15
        refine lv_iconst (v := (-1)) hx hb dX1_block_28 (by decide) ?_
        exact il_retiM hx hb hr hlocks dX1_block_29 hQ hK hP hD hS (by rw [im_blockU, if_neg c5, if_neg c9, if_pos c15, im_blockS, if_neg c5, if_neg c9, if_pos c15]) (by rw [im_blockR, if_neg c5, if_neg c9, if_pos c15])
      · have c15 : ¬ 1048575 < p1 := c15
        refine lv_iload_n hx hb dX1_block_18 rfl (lv_at hl 3 rfl) ?_
        refine lv_if_lt (tgt := 28) hx hb dX1_block_19 (by decide) (fun c19 => ?_) (fun c19 => ?_)
        · have c19 : p2 < 0 := c19
          refine lv_iconst (v := (-1)) hx hb dX1_block_28 (by decide) ?_
          exact il_retiM hx hb hr hlocks dX1_block_29 hQ hK hP hD hS (by rw [im_blockU, if_neg c5, if_neg c9, if_neg c15, if_pos c19, im_blockS, if_neg c5, if_neg c9, if_neg c15, if_pos c19]) (by rw [im_blockR, if_neg c5, if_neg c9, if_neg c15, if_pos c19])
        · have c19 : ¬ p2 < 0 := c19
          refine lv_iload_n hx hb dX1_block_22 rfl (lv_at hl 3 rfl) ?_
          refine lv_ldc (v := 1048575) hx hb hown (hts _ q199) dX1_block_23 ?_
          refine lv_icmp_le (tgt := 30) hx hb dX1_block_25 (by decide) (fun c25 => ?_) (fun c25 => ?_)
          · have c25 : p2 ≤ 1048575 := c25
            refine lv_aload_n hx hb dX1_block_30 rfl (lv_at hl 0 rfl) ?_
            refine va_get (D := (dC, dI)) (ci := 1) (v := .ref q2) (C := RX1) (T := TX1) (N := 4) hx hb hts in_X1 hown hK hP 0 rfl rfl 1 (by decide) (hts _ q155) (fun _ h9 => h9) rfl dX1_block_31 ?_
            refine lv_iload_n hx hb dX1_block_34 rfl (lv_at hl 1 rfl) ?_
            refine lv_iload_n hx hb dX1_block_35 rfl (lv_at hl 2 rfl) ?_
            refine il_st hx hb hK hP hD hS 2 0 rfl rfl hb12 (by decide) dX1_block_36 (fun H locs hP hD hS => ?_)
            have hP : va_P (dC, dI) vwCl (WY h0 q1 q2 q3 q4 d nx (upd us b p1) se lv) H := hP
            have hD : va_D A (WY h0 q1 q2 q3 q4 d nx (upd us b p1) se lv) := hD
            refine lv_aload_n hx hb dX1_block_37 rfl (lv_at hl 0 rfl) ?_
            refine va_get (D := (dC, dI)) (ci := 1) (v := .ref q3) (C := RX1) (T := TX1) (N := 4) hx hb hts in_X1 hown hK hP 0 rfl rfl 2 (by decide) (hts _ q156) (fun _ h9 => h9) rfl dX1_block_38 ?_
            refine lv_iload_n hx hb dX1_block_41 rfl (lv_at hl 1 rfl) ?_
            refine lv_iload_n hx hb dX1_block_42 rfl (lv_at hl 3 rfl) ?_
            refine il_st hx hb hK hP hD hS 3 0 rfl rfl hb12 (by decide) dX1_block_43 (fun H locs hP hD hS => ?_)
            have hP : va_P (dC, dI) vwCl (WY h0 q1 q2 q3 q4 d nx (upd us b p1) (upd se b p2) lv) H := hP
            have hD : va_D A (WY h0 q1 q2 q3 q4 d nx (upd us b p1) (upd se b p2) lv) := hD
            refine lv_iconst (v := 0) hx hb dX1_block_44 (by decide) ?_
            exact il_retiM hx hb hr hlocks dX1_block_45 hQ hK hP hD hS (by rw [im_blockU, if_neg c5, if_neg c9, if_neg c15, if_neg c19, if_pos c25, im_blockS, if_neg c5, if_neg c9, if_neg c15, if_neg c19, if_pos c25, il_nat_nI (i := b) (by omega)]) (by rw [im_blockR, if_neg c5, if_neg c9, if_neg c15, if_neg c19, if_pos c25])
          · have c25 : ¬ p2 ≤ 1048575 := c25
            refine lv_iconst (v := (-1)) hx hb dX1_block_28 (by decide) ?_
            exact il_retiM hx hb hr hlocks dX1_block_29 hQ hK hP hD hS (by rw [im_blockU, if_neg c5, if_neg c9, if_neg c15, if_neg c19, if_neg c25, im_blockS, if_neg c5, if_neg c9, if_neg c15, if_neg c19, if_neg c25]) (by rw [im_blockR, if_neg c5, if_neg c9, if_neg c15, if_neg c19, if_neg c25])
abbrev wsX1_cutOff : List Cond := ws_ yX1_cutOff cX1_cutOff 4 (some .int)
abbrev rmX1_cutOff : Room := il_rm 2 45
set_option maxHeartbeats 4000000 in
set_option maxRecDepth 100000 in
/-- cutOff(b) -/
theorem metX1_cutOff (l : Launch) (dC : Nat → ClassId) (dI : Nat → Nat → Nat) (h0 q1 q2 q3 q4 : Nat) (d : ClassId) (sz : Nat) (nx us se lv : il_F) (p0 : Int32) : Met l yX1_cutOff wsX1_cutOff rmX1_cutOff (il_PM dC dI (WY h0 q1 q2 q3 q4 d nx us se lv) d sz [.ref h0, .int p0]) (va_Qi (fun (r : Int32) (_ : Unit) => r = im_cutOffR nx p0) (il_B dC dI (va_A (WY h0 q1 q2 q3 q4 d nx us se lv) sz) (WY h0 q1 q2 q3 q4 d (im_cutOff nx p0) us se lv) d) (va_A (WY h0 q1 q2 q3 q4 d nx us se lv) sz)) 0 0 (va_A (WY h0 q1 q2 q3 q4 d nx us se lv) sz) := by
  refine Met.ofW (cc := cX1_cutOff) (maxL := 4) (ret := (some .int)) (by decide) rfl ?_
  intro p e s m args below meth c s₁ B hml hv
  obtain ⟨hargs, hsz, hP, hK, hD0⟩ := hv
  have hx := B.exec
  have hb := B.bytes
  have hr := B.returns
  have hlocks := B.notSynchronized
  have hts : ∀ w ∈ lw_all, w.before args s = true := fun w h => atoms_spec (ws := wsX1_cutOff) B.pre w (List.mem_cons_of_mem _ h)
  have hown : s.vm.findClass RX1 = some m.cls := findClass_of_methodNamed B.named
  have hF : CallFix p m c cX1_cutOff 4 s args lw_all RX1 := ⟨hx, hb, hml, hown, hts⟩
  subst hsz
  have hD := hD0.self (sz := s.heap.size)
  generalize hAe : va_A (WY h0 q1 q2 q3 q4 d nx us se lv) s.heap.size = A at hD ⊢
  have hA : ∀ q : Nat, s.heap.size ≤ q → A q := fun q h => by rw [← hAe]; exact Or.inr h
  have hS : va_S A s.heap s.heap [] := va_S.rf
  refine il_entry (n := 4) (vs := [.ref h0, .int p0]) (Nat.le_of_ble_eq_true rfl) hargs (fun ls hl => ?_)
  have hl : lv_has ls 4 [(0, .ref h0), (1, .int p0)] := hl
  generalize hQ : MQ below (va_Qi (fun (r : Int32) (_ : Unit) => r = im_cutOffR nx p0) (il_B dC dI A (WY h0 q1 q2 q3 q4 d (im_cutOff nx p0) us se lv) d) A) args s 0 0 A = Q
  have hP : va_P (dC, dI) vwCl (WY h0 q1 q2 q3 q4 d nx us se lv) s.heap := hP
  refine lv_aload_n hx hb dX1_cutOff_0 rfl (lv_at hl 0 rfl) ?_
  refine lv_iload_n hx hb dX1_cutOff_1 rfl (lv_at hl 1 rfl) ?_
  refine il_callR (As := [.int p0]) (rest := []) (v := im_isB p0) hF hK hP 1 rfl rfl (metX1_isBlock l dC dI h0 q1 q2 q3 q4 d nx us se lv p0) (cwV 1 hts (lw_V q171 q173 qs11 q21 q174) rfl rfl rfl (by decide +kernel) ⟨Nat.le_of_ble_eq_true rfl, Nat.le_of_ble_eq_true rfl⟩) rfl hl.1 (Nat.le_of_ble_eq_true rfl) dX1_cutOff_2 ⟨Nat.le_of_ble_eq_true rfl, Nat.le_of_ble_eq_true rfl⟩ rfl ?_
  refine lv_if_ne (tgt := 10) hx hb dX1_cutOff_5 (by decide) (fun c5 => ?_) (fun c5 => ?_)
  · have c5 : ¬ im_isB p0 = 0 := c5
    obtain ⟨b, hb12, rfl⟩ := im_isB_in c5
    refine lv_aload_n hx hb dX1_cutOff_10 rfl (lv_at hl 0 rfl) ?_
    refine lv_aload_n hx hb dX1_cutOff_11 rfl (lv_at hl 0 rfl) ?_
    refine va_get (D := (dC, dI)) (ci := 1) (v := .ref q1) (C := RX1) (T := TX1) (N := 4) hx hb hts in_X1 hown hK hP 0 rfl rfl 0 (by decide) (hts _ q154) (fun _ h9 => h9) rfl dX1_cutOff_12 ?_
    refine lv_iload_n hx hb dX1_cutOff_15 rfl (lv_at hl 1 rfl) ?_
    refine il_ld hx hb hK hP 1 0 rfl rfl hb12 (by decide) dX1_cutOff_16 ?_
    refine il_callR (As := [.int (nx b)]) (rest := []) (v := im_size (nx b)) hF hK hP 1 rfl rfl (metX1_sizeOf l dC dI h0 q1 q2 q3 q4 d nx us se lv (nx b)) (cwV 1 hts (lw_V q204 q206 qs14 q21 q207) rfl rfl rfl (by decide +kernel) ⟨Nat.le_of_ble_eq_true rfl, Nat.le_of_ble_eq_true rfl⟩) rfl hl.1 (Nat.le_of_ble_eq_true rfl) dX1_cutOff_17 ⟨Nat.le_of_ble_eq_true rfl, Nat.le_of_ble_eq_true rfl⟩ rfl ?_
    refine lv_istore_n (lv' := [(2, .int (im_size (nx b))), (0, .ref h0), (1, .int (nI b))]) hx hb dX1_cutOff_20 rfl hl (by decide) rfl (fun ls hl => ?_)
    refine lv_aload_n hx hb dX1_cutOff_21 rfl (lv_at hl 1 rfl) ?_
    refine va_get (D := (dC, dI)) (ci := 1) (v := .ref q1) (C := RX1) (T := TX1) (N := 4) hx hb hts in_X1 hown hK hP 0 rfl rfl 0 (by decide) (hts _ q154) (fun _ h9 => h9) rfl dX1_cutOff_22 ?_
    refine lv_iload_n hx hb dX1_cutOff_25 rfl (lv_at hl 2 rfl) ?_
    refine lv_iconst (v := 0) hx hb dX1_cutOff_26 (by decide) ?_
    refine il_st hx hb hK hP hD hS 1 0 rfl rfl hb12 (by decide) dX1_cutOff_27 (fun H locs hP hD hS => ?_)
    have hP : va_P (dC, dI) vwCl (WY h0 q1 q2 q3 q4 d (upd nx b 0) us se lv) H := hP
    have hD : va_D A (WY h0 q1 q2 q3 q4 d (upd nx b 0) us se lv) := hD
    refine lv_iconst (v := 0) hx hb dX1_cutOff_28 (by decide) ?_
    refine lv_istore_n (lv' := [(3, .int 0), (2, .int (im_size (nx b))), (0, .ref h0), (1, .int (nI b))]) hx hb dX1_cutOff_29 rfl hl (by decide) rfl (fun ls hl => ?_)
    have L30 : ∀ (n30 : Nat) (i : Nat) (nx1 : il_F) (x2 : Int32), 13 ≤ i + n30 → i ≤ 12 → (x2, nx1) = im_cutL b i nx → ∀ (H : Heap) (locs : List Loc), va_P (dC, dI) vwCl (WY h0 q1 q2 q3 q4 d nx1 us se lv) H → va_D A (WY h0 q1 q2 q3 q4 d nx1 us se lv) → va_S A s.heap H locs → ∀ ls : Array Slot, lv_has ls 4 [(0, .ref h0), (1, .int (nI b)), (2, .int x2), (3, .int (nI i))] → W p l e (headSpec wsX1_cutOff rmX1_cutOff).room s m args below meth c H locs 0 0 Q (F0 m 30 ls []) := by
      intro n30
      induction n30 with
      | zero =>
        intro i nx1 x2 hfu hi e1
        exact absurd hfu (by omega)
      | succ n30 ih30 =>
        intro i nx1 x2 hfu hi e1 H locs hP hD hS ls hl
        refine lv_iload_n hx hb dX1_cutOff_30 rfl (lv_at hl 3 rfl) ?_
        refine lv_bipush (v := 12) hx hb dX1_cutOff_31 (by decide) ?_
        refine lv_icmp_ge (tgt := 82) hx hb dX1_cutOff_33 (by decide) (fun c33 => ?_) (fun c33 => ?_)
        · have c33 : 12 ≤ nI i := c33
          have h33 : 12 ≤ i := il_ge (N := 12) (i := i) c33 (by omega) (by omega)
          refine lv_iload_n hx hb dX1_cutOff_82 rfl (lv_at hl 2 rfl) ?_
          exact il_retiM hx hb hr hlocks dX1_cutOff_83 hQ hK hP hD hS (by have e9 := e1; rw [show i = 12 by omega] at e9; rw [im_cutOff, if_neg c5, il_nat_nI (i := b) (by omega), ← e9]) (by have e9 := e1; rw [show i = 12 by omega] at e9; rw [im_cutOffR, if_neg c5, il_nat_nI (i := b) (by omega), ← e9])
        · have c33 : ¬ 12 ≤ nI i := c33
          have h33 : i < 12 := il_nge (N := 12) (i := i) c33 (by omega)
          refine lv_aload_n hx hb dX1_cutOff_36 rfl (lv_at hl 0 rfl) ?_
          refine lv_aload_n hx hb dX1_cutOff_37 rfl (lv_at hl 0 rfl) ?_
          refine va_get (D := (dC, dI)) (ci := 1) (v := .ref q1) (C := RX1) (T := TX1) (N := 4) hx hb hts in_X1 hown hK hP 0 rfl rfl 0 (by decide) (hts _ q154) (fun _ h9 => h9) rfl dX1_cutOff_38 ?_
          refine lv_iload_n hx hb dX1_cutOff_41 rfl (lv_at hl 3 rfl) ?_
          refine il_ld hx hb hK hP 1 0 rfl rfl h33 (by decide) dX1_cutOff_42 ?_
          refine lv_iload_n hx hb dX1_cutOff_43 rfl (lv_at hl 1 rfl) ?_
          refine il_callR (As := [.int (nx1 i), .int (nI b)]) (rest := []) (v := im_has (nx1 i) b) hF hK hP 1 rfl rfl (metX1_has l dC dI h0 q1 q2 q3 q4 d nx1 us se lv (nx1 i) b) (cwV 2 hts (lw_V q179 q181 qs12 q21 q182) rfl rfl rfl (by decide +kernel) ⟨Nat.le_of_ble_eq_true rfl, Nat.le_of_ble_eq_true rfl⟩) rfl hl.1 (Nat.le_of_ble_eq_true rfl) dX1_cutOff_44 ⟨Nat.le_of_ble_eq_true rfl, Nat.le_of_ble_eq_true rfl⟩ rfl ?_
          refine lv_if_eq (tgt := 56) hx hb dX1_cutOff_47 (by decide) (fun c47 => ?_) (fun c47 => ?_)
          · have c47 : im_has (nx1 i) b = 0 := c47
            refine lv_iload_n hx hb dX1_cutOff_56 rfl (lv_at hl 2 rfl) ?_
            refine lv_istore_n (lv' := [(2, .int x2), (0, .ref h0), (1, .int (nI b)), (3, .int (nI i))]) hx hb dX1_cutOff_57 rfl hl (by decide) rfl (fun ls hl => ?_)
            refine lv_aload_n hx hb dX1_cutOff_58 rfl (lv_at hl 1 rfl) ?_
            refine va_get (D := (dC, dI)) (ci := 1) (v := .ref q1) (C := RX1) (T := TX1) (N := 4) hx hb hts in_X1 hown hK hP 0 rfl rfl 0 (by decide) (hts _ q154) (fun _ h9 => h9) rfl dX1_cutOff_59 ?_
            refine lv_iload_n hx hb dX1_cutOff_62 rfl (lv_at hl 3 rfl) ?_
            refine lv_aload_n hx hb dX1_cutOff_63 rfl (lv_at hl 1 rfl) ?_
            refine va_get (D := (dC, dI)) (ci := 1) (v := .ref q1) (C := RX1) (T := TX1) (N := 4) hx hb hts in_X1 hown hK hP 0 rfl rfl 0 (by decide) (hts _ q154) (fun _ h9 => h9) rfl dX1_cutOff_64 ?_
            refine lv_iload_n hx hb dX1_cutOff_67 rfl (lv_at hl 3 rfl) ?_
            refine il_ld hx hb hK hP 1 0 rfl rfl h33 (by decide) dX1_cutOff_68 ?_
            refine lv_iconst (v := 1) hx hb dX1_cutOff_69 (by decide) ?_
            refine lv_iload_n hx hb dX1_cutOff_70 rfl (lv_at hl 2 rfl) ?_
            refine lv_ishl hx hb dX1_cutOff_71 ?_
            refine lv_iconst (v := (-1)) hx hb dX1_cutOff_72 (by decide) ?_
            refine lv_ixor hx hb dX1_cutOff_73 ?_
            refine lv_iand hx hb dX1_cutOff_74 ?_
            refine il_st hx hb hK hP hD hS 1 0 rfl rfl h33 (by decide) dX1_cutOff_75 (fun H locs hP hD hS => ?_)
            have hP : va_P (dC, dI) vwCl (WY h0 q1 q2 q3 q4 d (upd nx1 i ((nx1 i) &&& (il_n (il_o b)))) us se lv) H := hP
            have hD : va_D A (WY h0 q1 q2 q3 q4 d (upd nx1 i ((nx1 i) &&& (il_n (il_o b)))) us se lv) := hD
            refine lv_iinc (v := nI (i + 1)) (lv' := [(3, .int (nI (i + 1))), (2, .int x2), (0, .ref h0), (1, .int (nI b))]) hx hb dX1_cutOff_76 hl (k := 3) rfl (nI_1 i) (by decide) rfl (fun ls hl => ?_)
            refine lv_goto (tgt := 30) hx hb dX1_cutOff_79 (by decide) ?_
            exact ih30 (i + 1) (upd nx1 i ((nx1 i) &&& (il_n (il_o b)))) x2 (by omega) (by omega) (by rw [im_cutL, il_up_s]; show _ = im_cutS b i (im_cutL b i nx).1 (im_cutL b i nx).2; rw [← e1]; show _ = im_cutS b i x2 nx1; rw [im_cutS, if_pos c47]) _ _ hP hD hS ls (lv_sub hl [2, 3, 1, 0] rfl)
          · have c47 : ¬ im_has (nx1 i) b = 0 := c47
            refine lv_iload_n hx hb dX1_cutOff_50 rfl (lv_at hl 2 rfl) ?_
            refine lv_iconst (v := 1) hx hb dX1_cutOff_51 (by decide) ?_
            refine lv_iadd hx hb dX1_cutOff_52 ?_
            refine lv_goto (tgt := 57) hx hb dX1_cutOff_53 (by decide) ?_
            refine lv_istore_n (lv' := [(2, .int (x2 + 1)), (0, .ref h0), (1, .int (nI b)), (3, .int (nI i))]) hx hb dX1_cutOff_57 rfl hl (by decide) rfl (fun ls hl => ?_)
            refine lv_aload_n hx hb dX1_cutOff_58 rfl (lv_at hl 1 rfl) ?_
            refine va_get (D := (dC, dI)) (ci := 1) (v := .ref q1) (C := RX1) (T := TX1) (N := 4) hx hb hts in_X1 hown hK hP 0 rfl rfl 0 (by decide) (hts _ q154) (fun _ h9 => h9) rfl dX1_cutOff_59 ?_
            refine lv_iload_n hx hb dX1_cutOff_62 rfl (lv_at hl 3 rfl) ?_
            refine lv_aload_n hx hb dX1_cutOff_63 rfl (lv_at hl 1 rfl) ?_
            refine va_get (D := (dC, dI)) (ci := 1) (v := .ref q1) (C := RX1) (T := TX1) (N := 4) hx hb hts in_X1 hown hK hP 0 rfl rfl 0 (by decide) (hts _ q154) (fun _ h9 => h9) rfl dX1_cutOff_64 ?_
            refine lv_iload_n hx hb dX1_cutOff_67 rfl (lv_at hl 3 rfl) ?_
            refine il_ld hx hb hK hP 1 0 rfl rfl h33 (by decide) dX1_cutOff_68 ?_
            refine lv_iconst (v := 1) hx hb dX1_cutOff_69 (by decide) ?_
            refine lv_iload_n hx hb dX1_cutOff_70 rfl (lv_at hl 2 rfl) ?_
            refine lv_ishl hx hb dX1_cutOff_71 ?_
            refine lv_iconst (v := (-1)) hx hb dX1_cutOff_72 (by decide) ?_
            refine lv_ixor hx hb dX1_cutOff_73 ?_
            refine lv_iand hx hb dX1_cutOff_74 ?_
            refine il_st hx hb hK hP hD hS 1 0 rfl rfl h33 (by decide) dX1_cutOff_75 (fun H locs hP hD hS => ?_)
            have hP : va_P (dC, dI) vwCl (WY h0 q1 q2 q3 q4 d (upd nx1 i ((nx1 i) &&& (il_n (il_o b)))) us se lv) H := hP
            have hD : va_D A (WY h0 q1 q2 q3 q4 d (upd nx1 i ((nx1 i) &&& (il_n (il_o b)))) us se lv) := hD
            refine lv_iinc (v := nI (i + 1)) (lv' := [(3, .int (nI (i + 1))), (2, .int (x2 + 1)), (0, .ref h0), (1, .int (nI b))]) hx hb dX1_cutOff_76 hl (k := 3) rfl (nI_1 i) (by decide) rfl (fun ls hl => ?_)
            refine lv_goto (tgt := 30) hx hb dX1_cutOff_79 (by decide) ?_
            exact ih30 (i + 1) (upd nx1 i ((nx1 i) &&& (il_n (il_o b)))) (x2 + 1) (by omega) (by omega) (by rw [im_cutL, il_up_s]; show _ = im_cutS b i (im_cutL b i nx).1 (im_cutL b i nx).2; rw [← e1]; show _ = im_cutS b i x2 nx1; rw [im_cutS, if_neg c47]) _ _ hP hD hS ls (lv_sub hl [2, 3, 1, 0] rfl)
    exact L30 13 0 (upd nx b 0) (im_size (nx b)) (by decide) (by decide) rfl _ _ hP hD hS ls (lv_sub hl [2, 3, 1, 0] rfl)
  · have c5 : im_isB p0 = 0 := c5
    refine lv_iconst (v := (-1)) hx hb dX1_cutOff_8 (by decide) ?_
    exact il_retiM hx hb hr hlocks dX1_cutOff_9 hQ hK hP hD hS (by rw [im_cutOff, if_pos c5]) (by rw [im_cutOffR, if_pos c5])
abbrev wsX1_takeOver : List Cond := ws_ yX1_takeOver cX1_takeOver 4 (some .int)
abbrev rmX1_takeOver : Room := il_rm 2 45
set_option maxHeartbeats 4000000 in
set_option maxRecDepth 100000 in
/-- takeOver(b, c) -/
theorem metX1_takeOver (l : Launch) (dC : Nat → ClassId) (dI : Nat → Nat → Nat) (h0 q1 q2 q3 q4 : Nat) (d : ClassId) (sz : Nat) (nx us se lv : il_F) (p0 p1 : Int32) : Met l yX1_takeOver wsX1_takeOver rmX1_takeOver (il_PM dC dI (WY h0 q1 q2 q3 q4 d nx us se lv) d sz [.ref h0, .int p0, .int p1]) (va_Qi (fun (r : Int32) (_ : Unit) => r = im_takeOverR nx p0 p1) (il_B dC dI (va_A (WY h0 q1 q2 q3 q4 d nx us se lv) sz) (WY h0 q1 q2 q3 q4 d (im_takeOver nx p0 p1) us se lv) d) (va_A (WY h0 q1 q2 q3 q4 d nx us se lv) sz)) 0 0 (va_A (WY h0 q1 q2 q3 q4 d nx us se lv) sz) := by
  refine Met.ofW (cc := cX1_takeOver) (maxL := 4) (ret := (some .int)) (by decide) rfl ?_
  intro p e s m args below meth c s₁ B hml hv
  obtain ⟨hargs, hsz, hP, hK, hD0⟩ := hv
  have hx := B.exec
  have hb := B.bytes
  have hr := B.returns
  have hlocks := B.notSynchronized
  have hts : ∀ w ∈ lw_all, w.before args s = true := fun w h => atoms_spec (ws := wsX1_takeOver) B.pre w (List.mem_cons_of_mem _ h)
  have hown : s.vm.findClass RX1 = some m.cls := findClass_of_methodNamed B.named
  have hF : CallFix p m c cX1_takeOver 4 s args lw_all RX1 := ⟨hx, hb, hml, hown, hts⟩
  subst hsz
  have hD := hD0.self (sz := s.heap.size)
  generalize hAe : va_A (WY h0 q1 q2 q3 q4 d nx us se lv) s.heap.size = A at hD ⊢
  have hA : ∀ q : Nat, s.heap.size ≤ q → A q := fun q h => by rw [← hAe]; exact Or.inr h
  have hS : va_S A s.heap s.heap [] := va_S.rf
  refine il_entry (n := 4) (vs := [.ref h0, .int p0, .int p1]) (Nat.le_of_ble_eq_true rfl) hargs (fun ls hl => ?_)
  have hl : lv_has ls 4 [(0, .ref h0), (1, .int p0), (2, .int p1)] := hl
  generalize hQ : MQ below (va_Qi (fun (r : Int32) (_ : Unit) => r = im_takeOverR nx p0 p1) (il_B dC dI A (WY h0 q1 q2 q3 q4 d (im_takeOver nx p0 p1) us se lv) d) A) args s 0 0 A = Q
  have hP : va_P (dC, dI) vwCl (WY h0 q1 q2 q3 q4 d nx us se lv) s.heap := hP
  refine lv_aload_n hx hb dX1_takeOver_0 rfl (lv_at hl 0 rfl) ?_
  refine lv_iload_n hx hb dX1_takeOver_1 rfl (lv_at hl 1 rfl) ?_
  refine il_callR (As := [.int p0]) (rest := []) (v := im_isB p0) hF hK hP 1 rfl rfl (metX1_isBlock l dC dI h0 q1 q2 q3 q4 d nx us se lv p0) (cwV 1 hts (lw_V q171 q173 qs11 q21 q174) rfl rfl rfl (by decide +kernel) ⟨Nat.le_of_ble_eq_true rfl, Nat.le_of_ble_eq_true rfl⟩) rfl hl.1 (Nat.le_of_ble_eq_true rfl) dX1_takeOver_2 ⟨Nat.le_of_ble_eq_true rfl, Nat.le_of_ble_eq_true rfl⟩ rfl ?_
  refine lv_if_eq (tgt := 21) hx hb dX1_takeOver_5 (by decide) (fun c5 => ?_) (fun c5 => ?_)
  · have c5 : im_isB p0 = 0 := c5
    refine lv_iconst (v := (-1)) hx hb dX1_takeOver_21 (by decide) ?_
    exact il_retiM hx hb hr hlocks dX1_takeOver_22 hQ hK hP hD hS (by rw [im_takeOver, if_pos c5]) (by rw [im_takeOverR, if_pos c5])
  · have c5 : ¬ im_isB p0 = 0 := c5
    obtain ⟨b, hb12, rfl⟩ := im_isB_in c5
    refine lv_aload_n hx hb dX1_takeOver_8 rfl (lv_at hl 0 rfl) ?_
    refine lv_iload_n hx hb dX1_takeOver_9 rfl (lv_at hl 2 rfl) ?_
    refine il_callR (As := [.int p1]) (rest := []) (v := im_isB p1) hF hK hP 1 rfl rfl (metX1_isBlock l dC dI h0 q1 q2 q3 q4 d nx us se lv p1) (cwV 1 hts (lw_V q171 q173 qs11 q21 q174) rfl rfl rfl (by decide +kernel) ⟨Nat.le_of_ble_eq_true rfl, Nat.le_of_ble_eq_true rfl⟩) rfl hl.1 (Nat.le_of_ble_eq_true rfl) dX1_takeOver_10 ⟨Nat.le_of_ble_eq_true rfl, Nat.le_of_ble_eq_true rfl⟩ rfl ?_
    refine lv_if_eq (tgt := 21) hx hb dX1_takeOver_13 (by decide) (fun c13 => ?_) (fun c13 => ?_)
    · have c13 : im_isB p1 = 0 := c13
      refine lv_iconst (v := (-1)) hx hb dX1_takeOver_21 (by decide) ?_
      exact il_retiM hx hb hr hlocks dX1_takeOver_22 hQ hK hP hD hS (by rw [im_takeOver, if_neg c5, if_pos c13]) (by rw [im_takeOverR, if_neg c5, if_pos c13])
    · have c13 : ¬ im_isB p1 = 0 := c13
      obtain ⟨k, hk12, rfl⟩ := im_isB_in c13
      refine lv_iload_n hx hb dX1_takeOver_16 rfl (lv_at hl 1 rfl) ?_
      refine lv_iload_n hx hb dX1_takeOver_17 rfl (lv_at hl 2 rfl) ?_
      refine lv_icmp_ne (tgt := 23) hx hb dX1_takeOver_18 (by decide) (fun c18 => ?_) (fun c18 => ?_)
      · have c18 : ¬ nI b = nI k := c18
        refine lv_aload_n hx hb dX1_takeOver_23 rfl (lv_at hl 0 rfl) ?_
        refine lv_aload_n hx hb dX1_takeOver_24 rfl (lv_at hl 0 rfl) ?_
        refine va_get (D := (dC, dI)) (ci := 1) (v := .ref q1) (C := RX1) (T := TX1) (N := 4) hx hb hts in_X1 hown hK hP 0 rfl rfl 0 (by decide) (hts _ q154) (fun _ h9 => h9) rfl dX1_takeOver_25 ?_
        refine lv_iload_n hx hb dX1_takeOver_28 rfl (lv_at hl 2 rfl) ?_
        refine il_ld hx hb hK hP 1 0 rfl rfl hk12 (by decide) dX1_takeOver_29 ?_
        refine lv_aload_n hx hb dX1_takeOver_30 rfl (lv_at hl 0 rfl) ?_
        refine va_get (D := (dC, dI)) (ci := 1) (v := .ref q1) (C := RX1) (T := TX1) (N := 4) hx hb hts in_X1 hown hK hP 0 rfl rfl 0 (by decide) (hts _ q154) (fun _ h9 => h9) rfl dX1_takeOver_31 ?_
        refine lv_iload_n hx hb dX1_takeOver_34 rfl (lv_at hl 1 rfl) ?_
        refine il_ld hx hb hK hP 1 0 rfl rfl hb12 (by decide) dX1_takeOver_35 ?_
        refine lv_iconst (v := (-1)) hx hb dX1_takeOver_36 (by decide) ?_
        refine lv_ixor hx hb dX1_takeOver_37 ?_
        refine lv_iand hx hb dX1_takeOver_38 ?_
        refine il_callR (As := [.int ((nx k) &&& (il_n (nx b)))]) (rest := []) (v := im_size ((nx k) &&& (il_n (nx b)))) hF hK hP 1 rfl rfl (metX1_sizeOf l dC dI h0 q1 q2 q3 q4 d nx us se lv ((nx k) &&& (il_n (nx b)))) (cwV 1 hts (lw_V q204 q206 qs14 q21 q207) rfl rfl rfl (by decide +kernel) ⟨Nat.le_of_ble_eq_true rfl, Nat.le_of_ble_eq_true rfl⟩) rfl hl.1 (Nat.le_of_ble_eq_true rfl) dX1_takeOver_39 ⟨Nat.le_of_ble_eq_true rfl, Nat.le_of_ble_eq_true rfl⟩ rfl ?_
        refine lv_istore_n (lv' := [(3, .int (im_size ((nx k) &&& (il_n (nx b))))), (0, .ref h0), (1, .int (nI b)), (2, .int (nI k))]) hx hb dX1_takeOver_42 rfl hl (by decide) rfl (fun ls hl => ?_)
        refine lv_aload_n hx hb dX1_takeOver_43 rfl (lv_at hl 1 rfl) ?_
        refine va_get (D := (dC, dI)) (ci := 1) (v := .ref q1) (C := RX1) (T := TX1) (N := 4) hx hb hts in_X1 hown hK hP 0 rfl rfl 0 (by decide) (hts _ q154) (fun _ h9 => h9) rfl dX1_takeOver_44 ?_
        refine lv_iload_n hx hb dX1_takeOver_47 rfl (lv_at hl 2 rfl) ?_
        refine lv_aload_n hx hb dX1_takeOver_48 rfl (lv_at hl 1 rfl) ?_
        refine va_get (D := (dC, dI)) (ci := 1) (v := .ref q1) (C := RX1) (T := TX1) (N := 4) hx hb hts in_X1 hown hK hP 0 rfl rfl 0 (by decide) (hts _ q154) (fun _ h9 => h9) rfl dX1_takeOver_49 ?_
        refine lv_iload_n hx hb dX1_takeOver_52 rfl (lv_at hl 2 rfl) ?_
        refine il_ld hx hb hK hP 1 0 rfl rfl hb12 (by decide) dX1_takeOver_53 ?_
        refine lv_aload_n hx hb dX1_takeOver_54 rfl (lv_at hl 1 rfl) ?_
        refine va_get (D := (dC, dI)) (ci := 1) (v := .ref q1) (C := RX1) (T := TX1) (N := 4) hx hb hts in_X1 hown hK hP 0 rfl rfl 0 (by decide) (hts _ q154) (fun _ h9 => h9) rfl dX1_takeOver_55 ?_
        refine lv_iload_n hx hb dX1_takeOver_58 rfl (lv_at hl 3 rfl) ?_
        refine il_ld hx hb hK hP 1 0 rfl rfl hk12 (by decide) dX1_takeOver_59 ?_
        refine lv_ior hx hb dX1_takeOver_60 ?_
        refine il_st hx hb hK hP hD hS 1 0 rfl rfl hb12 (by decide) dX1_takeOver_61 (fun H locs hP hD hS => ?_)
        have hP : va_P (dC, dI) vwCl (WY h0 q1 q2 q3 q4 d (upd nx b ((nx b) ||| (nx k))) us se lv) H := hP
        have hD : va_D A (WY h0 q1 q2 q3 q4 d (upd nx b ((nx b) ||| (nx k))) us se lv) := hD
        refine lv_aload_n hx hb dX1_takeOver_62 rfl (lv_at hl 1 rfl) ?_
        refine va_get (D := (dC, dI)) (ci := 1) (v := .ref q1) (C := RX1) (T := TX1) (N := 4) hx hb hts in_X1 hown hK hP 0 rfl rfl 0 (by decide) (hts _ q154) (fun _ h9 => h9) rfl dX1_takeOver_63 ?_
        refine lv_iload_n hx hb dX1_takeOver_66 rfl (lv_at hl 3 rfl) ?_
        refine lv_iconst (v := 0) hx hb dX1_takeOver_67 (by decide) ?_
        refine il_st hx hb hK hP hD hS 1 0 rfl rfl hk12 (by decide) dX1_takeOver_68 (fun H locs hP hD hS => ?_)
        have hP : va_P (dC, dI) vwCl (WY h0 q1 q2 q3 q4 d (upd (upd nx b ((nx b) ||| (nx k))) k 0) us se lv) H := hP
        have hD : va_D A (WY h0 q1 q2 q3 q4 d (upd (upd nx b ((nx b) ||| (nx k))) k 0) us se lv) := hD
        refine lv_iload_n hx hb dX1_takeOver_69 rfl (lv_at hl 0 rfl) ?_
        exact il_retiM hx hb hr hlocks dX1_takeOver_70 hQ hK hP hD hS (by rw [im_takeOver, if_neg c5, if_neg c13, if_neg c18, il_nat_nI (i := b) (by omega), il_nat_nI (i := k) (by omega), im_tk]) (by rw [im_takeOverR, if_neg c5, if_neg c13, if_neg c18, il_nat_nI (i := b) (by omega), il_nat_nI (i := k) (by omega)])
      · have c18 : nI b = nI k := c18
        refine lv_iconst (v := (-1)) hx hb dX1_takeOver_21 (by decide) ?_
        exact il_retiM hx hb hr hlocks dX1_takeOver_22 hQ hK hP hD hS (by rw [im_takeOver, if_neg c5, if_neg c13, if_pos c18]) (by rw [im_takeOverR, if_neg c5, if_neg c13, if_pos c18])
end
section
abbrev wsX1_behind : List Cond := ws_ yX1_behind cX1_behind 4 (some .int)
abbrev rmX1_behind : Room := il_rm 1 22
set_option maxHeartbeats 4000000 in
set_option maxRecDepth 100000 in
/-- behind(b) -/
theorem metX1_behind (l : Launch) (dC : Nat → ClassId) (dI : Nat → Nat → Nat) (h0 q1 q2 q3 q4 : Nat) (d : ClassId) (nx us se lv : il_F) (b : Nat) (hb12 : b < 12) : Met l yX1_behind wsX1_behind rmX1_behind (il_PR dC dI (WY h0 q1 q2 q3 q4 d nx us se lv) d [.ref h0, .int (nI b)]) (vp_Si (fun r => r = im_behind nx lv b)) 0 0 (fun _ => False) := by
  refine Met.ofW (cc := cX1_behind) (maxL := 4) (ret := (some .int)) (by decide) rfl ?_
  intro p e s m args below meth c s₁ B hml hv
  obtain ⟨hargs, hP, hK⟩ := hv
  have hx := B.exec
  have hb := B.bytes
  have hr := B.returns
  have hlocks := B.notSynchronized
  have hts : ∀ w ∈ lw_all, w.before args s = true := fun w h => atoms_spec (ws := wsX1_behind) B.pre w (List.mem_cons_of_mem _ h)
  have hown : s.vm.findClass RX1 = some m.cls := findClass_of_methodNamed B.named
  have hF : CallFix p m c cX1_behind 4 s args lw_all RX1 := ⟨hx, hb, hml, hown, hts⟩
  refine il_entry (n := 4) (vs := [.ref h0, .int (nI b)]) (Nat.le_of_ble_eq_true rfl) hargs (fun ls hl => ?_)
  have hl : lv_has ls 4 [(0, .ref h0), (1, .int (nI b))] := hl
  generalize hQ : MQ below (vp_Si (fun r => r = im_behind nx lv b)) args s 0 0 (fun _ => False) = Q
  refine lv_iconst (v := 0) hx hb dX1_behind_0 (by decide) ?_
  refine lv_istore_n (lv' := [(2, .int 0), (0, .ref h0), (1, .int (nI b))]) hx hb dX1_behind_1 rfl hl (by decide) rfl (fun ls hl => ?_)
  refine lv_iconst (v := 0) hx hb dX1_behind_2 (by decide) ?_
  refine lv_istore_n (lv' := [(3, .int 0), (2, .int 0), (0, .ref h0), (1, .int (nI b))]) hx hb dX1_behind_3 rfl hl (by decide) rfl (fun ls hl => ?_)
  have L4 : ∀ (n4 : Nat) (i : Nat) (x2 : Int32), 13 ≤ i + n4 → i ≤ 12 → x2 = il_up (im_bhS (nx b) lv) i 0 → ∀ ls : Array Slot, lv_has ls 4 [(0, .ref h0), (1, .int (nI b)), (2, .int x2), (3, .int (nI i))] → W p l e (headSpec wsX1_behind rmX1_behind).room s m args below meth c s.heap [] 0 0 Q (F0 m 4 ls []) := by
    intro n4
    induction n4 with
    | zero =>
      intro i x2 hfu hi e2
      exact absurd hfu (by omega)
    | succ n4 ih4 =>
      intro i x2 hfu hi e2 ls hl
      refine lv_iload_n hx hb dX1_behind_4 rfl (lv_at hl 3 rfl) ?_
      refine lv_bipush (v := 12) hx hb dX1_behind_5 (by decide) ?_
      refine lv_icmp_ge (tgt := 43) hx hb dX1_behind_7 (by decide) (fun c7 => ?_) (fun c7 => ?_)
      · have c7 : 12 ≤ nI i := c7
        have h7 : 12 ≤ i := il_ge (N := 12) (i := i) c7 (by omega) (by omega)
        refine lv_iload_n hx hb dX1_behind_43 rfl (lv_at hl 2 rfl) ?_
        exact il_reti hx hb hr hlocks dX1_behind_44 hQ (by rw [e2, im_behind, show i = 12 by omega])
      · have c7 : ¬ 12 ≤ nI i := c7
        have h7 : i < 12 := il_nge (N := 12) (i := i) c7 (by omega)
        refine lv_aload_n hx hb dX1_behind_10 rfl (lv_at hl 0 rfl) ?_
        refine lv_aload_n hx hb dX1_behind_11 rfl (lv_at hl 0 rfl) ?_
        refine va_get (D := (dC, dI)) (ci := 1) (v := .ref q1) (C := RX1) (T := TX1) (N := 4) hx hb hts in_X1 hown hK hP 0 rfl rfl 0 (by decide) (hts _ q154) (fun _ h9 => h9) rfl dX1_behind_12 ?_
        refine lv_iload_n hx hb dX1_behind_15 rfl (lv_at hl 1 rfl) ?_
        refine il_ld hx hb hK hP 1 0 rfl rfl hb12 (by decide) dX1_behind_16 ?_
        refine lv_iload_n hx hb dX1_behind_17 rfl (lv_at hl 3 rfl) ?_
        refine il_callR (As := [.int (nx b), .int (nI i)]) (rest := []) (v := im_has (nx b) i) hF hK hP 1 rfl rfl (metX1_has l dC dI h0 q1 q2 q3 q4 d nx us se lv (nx b) i) (cwV 2 hts (lw_V q179 q181 qs12 q21 q182) rfl rfl rfl (by decide +kernel) ⟨Nat.le_of_ble_eq_true rfl, Nat.le_of_ble_eq_true rfl⟩) rfl hl.1 (Nat.le_of_ble_eq_true rfl) dX1_behind_18 ⟨Nat.le_of_ble_eq_true rfl, Nat.le_of_ble_eq_true rfl⟩ rfl ?_
        refine lv_if_eq (tgt := 35) hx hb dX1_behind_21 (by decide) (fun c21 => ?_) (fun c21 => ?_)
        · have c21 : im_has (nx b) i = 0 := c21
          refine lv_iload_n hx hb dX1_behind_35 rfl (lv_at hl 2 rfl) ?_
          refine lv_istore_n (lv' := [(2, .int x2), (0, .ref h0), (1, .int (nI b)), (3, .int (nI i))]) hx hb dX1_behind_36 rfl hl (by decide) rfl (fun ls hl => ?_)
          refine lv_iinc (v := nI (i + 1)) (lv' := [(3, .int (nI (i + 1))), (2, .int x2), (0, .ref h0), (1, .int (nI b))]) hx hb dX1_behind_37 hl (k := 3) rfl (nI_1 i) (by decide) rfl (fun ls hl => ?_)
          refine lv_goto (tgt := 4) hx hb dX1_behind_40 (by decide) ?_
          exact ih4 (i + 1) x2 (by omega) (by omega) (by rw [il_up_s, ← e2, im_bhS, if_pos c21]) ls (lv_sub hl [2, 3, 1, 0] rfl)
        · have c21 : ¬ im_has (nx b) i = 0 := c21
          refine lv_iload_n hx hb dX1_behind_24 rfl (lv_at hl 2 rfl) ?_
          refine lv_aload_n hx hb dX1_behind_25 rfl (lv_at hl 0 rfl) ?_
          refine va_get (D := (dC, dI)) (ci := 1) (v := .ref q4) (C := RX1) (T := TX1) (N := 4) hx hb hts in_X1 hown hK hP 0 rfl rfl 3 (by decide) (hts _ q157) (fun _ h9 => h9) rfl dX1_behind_26 ?_
          refine lv_iload_n hx hb dX1_behind_29 rfl (lv_at hl 3 rfl) ?_
          refine il_ld hx hb hK hP 4 0 rfl rfl h7 (by decide) dX1_behind_30 ?_
          refine lv_ior hx hb dX1_behind_31 ?_
          refine lv_goto (tgt := 36) hx hb dX1_behind_32 (by decide) ?_
          refine lv_istore_n (lv' := [(2, .int (x2 ||| (lv i))), (0, .ref h0), (1, .int (nI b)), (3, .int (nI i))]) hx hb dX1_behind_36 rfl hl (by decide) rfl (fun ls hl => ?_)
          refine lv_iinc (v := nI (i + 1)) (lv' := [(3, .int (nI (i + 1))), (2, .int (x2 ||| (lv i))), (0, .ref h0), (1, .int (nI b))]) hx hb dX1_behind_37 hl (k := 3) rfl (nI_1 i) (by decide) rfl (fun ls hl => ?_)
          refine lv_goto (tgt := 4) hx hb dX1_behind_40 (by decide) ?_
          exact ih4 (i + 1) (x2 ||| (lv i)) (by omega) (by omega) (by rw [il_up_s, ← e2, im_bhS, if_neg c21]) ls (lv_sub hl [2, 3, 1, 0] rfl)
  exact L4 13 0 0 (by decide) (by decide) rfl ls (lv_sub hl [2, 3, 1, 0] rfl)
abbrev wsX1_spread : List Cond := ws_ yX1_spread cX1_spread 3 none
abbrev rmX1_spread : Room := il_rm 2 45
set_option maxHeartbeats 4000000 in
set_option maxRecDepth 100000 in
/-- spread() -/
theorem metX1_spread (l : Launch) (dC : Nat → ClassId) (dI : Nat → Nat → Nat) (h0 q1 q2 q3 q4 : Nat) (d : ClassId) (sz : Nat) (nx us se lv : il_F) : Met l yX1_spread wsX1_spread rmX1_spread (il_PM dC dI (WY h0 q1 q2 q3 q4 d nx us se lv) d sz [.ref h0]) (va_Qv (fun _ : Unit => True) (il_B dC dI (va_A (WY h0 q1 q2 q3 q4 d nx us se lv) sz) (WY h0 q1 q2 q3 q4 d nx us se (im_spread nx us se lv)) d) (va_A (WY h0 q1 q2 q3 q4 d nx us se lv) sz)) 0 0 (va_A (WY h0 q1 q2 q3 q4 d nx us se lv) sz) := by
  refine Met.ofW (cc := cX1_spread) (maxL := 3) (ret := none) (by decide) rfl ?_
  intro p e s m args below meth c s₁ B hml hv
  obtain ⟨hargs, hsz, hP, hK, hD0⟩ := hv
  have hx := B.exec
  have hb := B.bytes
  have hr := B.returns
  have hlocks := B.notSynchronized
  have hts : ∀ w ∈ lw_all, w.before args s = true := fun w h => atoms_spec (ws := wsX1_spread) B.pre w (List.mem_cons_of_mem _ h)
  have hown : s.vm.findClass RX1 = some m.cls := findClass_of_methodNamed B.named
  have hF : CallFix p m c cX1_spread 3 s args lw_all RX1 := ⟨hx, hb, hml, hown, hts⟩
  subst hsz
  have hD := hD0.self (sz := s.heap.size)
  generalize hAe : va_A (WY h0 q1 q2 q3 q4 d nx us se lv) s.heap.size = A at hD ⊢
  have hA : ∀ q : Nat, s.heap.size ≤ q → A q := fun q h => by rw [← hAe]; exact Or.inr h
  have hS : va_S A s.heap s.heap [] := va_S.rf
  refine il_entry (n := 3) (vs := [.ref h0]) (Nat.le_of_ble_eq_true rfl) hargs (fun ls hl => ?_)
  have hl : lv_has ls 3 [(0, .ref h0)] := hl
  generalize hQ : MQ below (va_Qv (fun _ : Unit => True) (il_B dC dI A (WY h0 q1 q2 q3 q4 d nx us se (im_spread nx us se lv)) d) A) args s 0 0 A = Q
  have hP : va_P (dC, dI) vwCl (WY h0 q1 q2 q3 q4 d nx us se lv) s.heap := hP
  refine lv_iconst (v := 0) hx hb dX1_spread_0 (by decide) ?_
  refine lv_istore_n (lv' := [(1, .int 0), (0, .ref h0)]) hx hb dX1_spread_1 rfl hl (by decide) rfl (fun ls hl => ?_)
  have L2 : ∀ (n2 : Nat) (i : Nat) (lv1 : il_F), 13 ≤ i + n2 → i ≤ 12 → lv1 = il_up (im_cpS us) i lv → ∀ (H : Heap) (locs : List Loc), va_P (dC, dI) vwCl (WY h0 q1 q2 q3 q4 d nx us se lv1) H → va_D A (WY h0 q1 q2 q3 q4 d nx us se lv1) → va_S A s.heap H locs → ∀ ls : Array Slot, lv_has ls 3 [(0, .ref h0), (1, .int (nI i))] → W p l e (headSpec wsX1_spread rmX1_spread).room s m args below meth c H locs 0 0 Q (F0 m 2 ls []) := by
    intro n2
    induction n2 with
    | zero =>
      intro i lv1 hfu hi e1
      exact absurd hfu (by omega)
    | succ n2 ih2 =>
      intro i lv1 hfu hi e1 H locs hP hD hS ls hl
      refine lv_iload_n hx hb dX1_spread_2 rfl (lv_at hl 1 rfl) ?_
      refine lv_bipush (v := 12) hx hb dX1_spread_3 (by decide) ?_
      refine lv_icmp_ge (tgt := 26) hx hb dX1_spread_5 (by decide) (fun c5 => ?_) (fun c5 => ?_)
      · have c5 : 12 ≤ nI i := c5
        have h5 : 12 ≤ i := il_ge (N := 12) (i := i) c5 (by omega) (by omega)
        refine lv_iconst (v := 0) hx hb dX1_spread_26 (by decide) ?_
        refine lv_istore_n (lv' := [(1, .int 0), (0, .ref h0)]) hx hb dX1_spread_27 rfl hl (by decide) rfl (fun ls hl => ?_)
        have L28 : ∀ (n28 : Nat) (r : Nat) (lv2 : il_F), 13 ≤ r + n28 → r ≤ 12 → lv2 = il_up (im_spR nx se) r (il_up (im_cpS us) 12 lv) → ∀ (H : Heap) (locs : List Loc), va_P (dC, dI) vwCl (WY h0 q1 q2 q3 q4 d nx us se lv2) H → va_D A (WY h0 q1 q2 q3 q4 d nx us se lv2) → va_S A s.heap H locs → ∀ ls : Array Slot, lv_has ls 3 [(0, .ref h0), (1, .int (nI r))] → W p l e (headSpec wsX1_spread rmX1_spread).room s m args below meth c H locs 0 0 Q (F0 m 28 ls []) := by
          intro n28
          induction n28 with
          | zero =>
            intro r lv2 hfu hr1 e2
            exact absurd hfu (by omega)
          | succ n28 ih28 =>
            intro r lv2 hfu hr1 e2 H locs hP hD hS ls hl
            refine lv_iload_n hx hb dX1_spread_28 rfl (lv_at hl 1 rfl) ?_
            refine lv_bipush (v := 12) hx hb dX1_spread_29 (by decide) ?_
            refine lv_icmp_ge (tgt := 81) hx hb dX1_spread_31 (by decide) (fun c31 => ?_) (fun c31 => ?_)
            · have c31 : 12 ≤ nI r := c31
              have h31 : 12 ≤ r := il_ge (N := 12) (i := r) c31 (by omega) (by omega)
              exact il_retv hx hb hr hlocks dX1_spread_81 hQ hK hP hD hS (by rw [im_spread, e2, show r = 12 by omega])
            · have c31 : ¬ 12 ≤ nI r := c31
              have h31 : r < 12 := il_nge (N := 12) (i := r) c31 (by omega)
              refine lv_iconst (v := 0) hx hb dX1_spread_34 (by decide) ?_
              refine lv_istore_n (lv' := [(2, .int 0), (0, .ref h0), (1, .int (nI r))]) hx hb dX1_spread_35 rfl hl (by decide) rfl (fun ls hl => ?_)
              have L36 : ∀ (n36 : Nat) (j : Nat) (lv3 : il_F), 13 ≤ j + n36 → j ≤ 12 → lv3 = il_up (im_spS nx se) j lv2 → ∀ (H : Heap) (locs : List Loc), va_P (dC, dI) vwCl (WY h0 q1 q2 q3 q4 d nx us se lv3) H → va_D A (WY h0 q1 q2 q3 q4 d nx us se lv3) → va_S A s.heap H locs → ∀ ls : Array Slot, lv_has ls 3 [(0, .ref h0), (1, .int (nI r)), (2, .int (nI j))] → W p l e (headSpec wsX1_spread rmX1_spread).room s m args below meth c H locs 0 0 Q (F0 m 36 ls []) := by
                intro n36
                induction n36 with
                | zero =>
                  intro j lv3 hfu hj e3
                  exact absurd hfu (by omega)
                | succ n36 ih36 =>
                  intro j lv3 hfu hj e3 H locs hP hD hS ls hl
                  refine lv_iload_n hx hb dX1_spread_36 rfl (lv_at hl 2 rfl) ?_
                  refine lv_bipush (v := 12) hx hb dX1_spread_37 (by decide) ?_
                  refine lv_icmp_ge (tgt := 75) hx hb dX1_spread_39 (by decide) (fun c39 => ?_) (fun c39 => ?_)
                  · have c39 : 12 ≤ nI j := c39
                    have h39 : 12 ≤ j := il_ge (N := 12) (i := j) c39 (by omega) (by omega)
                    refine lv_iinc (v := nI (r + 1)) (lv' := [(1, .int (nI (r + 1))), (0, .ref h0), (2, .int (nI j))]) hx hb dX1_spread_75 hl (k := 1) rfl (nI_1 r) (by decide) rfl (fun ls hl => ?_)
                    refine lv_goto (tgt := 28) hx hb dX1_spread_78 (by decide) ?_
                    exact ih28 (r + 1) lv3 (by omega) (by omega) (by rw [il_up_s, ← e2, im_spR, e3, show j = 12 by omega]) _ _ hP hD hS ls (lv_sub hl [1, 0] rfl)
                  · have c39 : ¬ 12 ≤ nI j := c39
                    have h39 : j < 12 := il_nge (N := 12) (i := j) c39 (by omega)
                    refine lv_aload_n hx hb dX1_spread_42 rfl (lv_at hl 0 rfl) ?_
                    refine va_get (D := (dC, dI)) (ci := 1) (v := .ref q4) (C := RX1) (T := TX1) (N := 4) hx hb hts in_X1 hown hK hP 0 rfl rfl 3 (by decide) (hts _ q157) (fun _ h9 => h9) rfl dX1_spread_43 ?_
                    refine lv_iload_n hx hb dX1_spread_46 rfl (lv_at hl 2 rfl) ?_
                    refine lv_aload_n hx hb dX1_spread_47 rfl (lv_at hl 0 rfl) ?_
                    refine va_get (D := (dC, dI)) (ci := 1) (v := .ref q4) (C := RX1) (T := TX1) (N := 4) hx hb hts in_X1 hown hK hP 0 rfl rfl 3 (by decide) (hts _ q157) (fun _ h9 => h9) rfl dX1_spread_48 ?_
                    refine lv_iload_n hx hb dX1_spread_51 rfl (lv_at hl 2 rfl) ?_
                    refine il_ld hx hb hK hP 4 0 rfl rfl h39 (by decide) dX1_spread_52 ?_
                    refine lv_aload_n hx hb dX1_spread_53 rfl (lv_at hl 0 rfl) ?_
                    refine lv_iload_n hx hb dX1_spread_54 rfl (lv_at hl 2 rfl) ?_
                    refine il_callR (As := [.int (nI j)]) (rest := [.int (lv3 j), .int (nI j), .ref q4]) (v := im_behind nx lv3 j) hF hK hP 1 rfl rfl (metX1_behind l dC dI h0 q1 q2 q3 q4 d nx us se lv3 j h39) (cwV 1 hts (lw_V q220 q222 qs16 q21 q223) rfl rfl rfl (by decide +kernel) ⟨Nat.le_of_ble_eq_true rfl, Nat.le_of_ble_eq_true rfl⟩) rfl hl.1 (Nat.le_of_ble_eq_true rfl) dX1_spread_55 ⟨Nat.le_of_ble_eq_true rfl, Nat.le_of_ble_eq_true rfl⟩ rfl ?_
                    refine lv_aload_n hx hb dX1_spread_58 rfl (lv_at hl 0 rfl) ?_
                    refine va_get (D := (dC, dI)) (ci := 1) (v := .ref q3) (C := RX1) (T := TX1) (N := 4) hx hb hts in_X1 hown hK hP 0 rfl rfl 2 (by decide) (hts _ q156) (fun _ h9 => h9) rfl dX1_spread_59 ?_
                    refine lv_iload_n hx hb dX1_spread_62 rfl (lv_at hl 2 rfl) ?_
                    refine il_ld hx hb hK hP 3 0 rfl rfl h39 (by decide) dX1_spread_63 ?_
                    refine lv_iconst (v := (-1)) hx hb dX1_spread_64 (by decide) ?_
                    refine lv_ixor hx hb dX1_spread_65 ?_
                    refine lv_iand hx hb dX1_spread_66 ?_
                    refine lv_ior hx hb dX1_spread_67 ?_
                    refine il_st hx hb hK hP hD hS 4 0 rfl rfl h39 (by decide) dX1_spread_68 (fun H locs hP hD hS => ?_)
                    have hP : va_P (dC, dI) vwCl (WY h0 q1 q2 q3 q4 d nx us se (upd lv3 j ((lv3 j) ||| ((im_behind nx lv3 j) &&& (il_n (se j)))))) H := hP
                    have hD : va_D A (WY h0 q1 q2 q3 q4 d nx us se (upd lv3 j ((lv3 j) ||| ((im_behind nx lv3 j) &&& (il_n (se j)))))) := hD
                    refine lv_iinc (v := nI (j + 1)) (lv' := [(2, .int (nI (j + 1))), (0, .ref h0), (1, .int (nI r))]) hx hb dX1_spread_69 hl (k := 2) rfl (nI_1 j) (by decide) rfl (fun ls hl => ?_)
                    refine lv_goto (tgt := 36) hx hb dX1_spread_72 (by decide) ?_
                    exact ih36 (j + 1) (upd lv3 j ((lv3 j) ||| ((im_behind nx lv3 j) &&& (il_n (se j))))) (by omega) (by omega) (by rw [il_up_s, ← e3, im_spS]) _ _ hP hD hS ls (lv_sub hl [1, 2, 0] rfl)
              exact L36 13 0 lv2 (by decide) (by decide) rfl _ _ hP hD hS ls (lv_sub hl [1, 2, 0] rfl)
        exact L28 13 0 lv1 (by decide) (by decide) (by rw [e1, show i = 12 by omega, il_up_0]) _ _ hP hD hS ls (lv_sub hl [1, 0] rfl)
      · have c5 : ¬ 12 ≤ nI i := c5
        have h5 : i < 12 := il_nge (N := 12) (i := i) c5 (by omega)
        refine lv_aload_n hx hb dX1_spread_8 rfl (lv_at hl 0 rfl) ?_
        refine va_get (D := (dC, dI)) (ci := 1) (v := .ref q4) (C := RX1) (T := TX1) (N := 4) hx hb hts in_X1 hown hK hP 0 rfl rfl 3 (by decide) (hts _ q157) (fun _ h9 => h9) rfl dX1_spread_9 ?_
        refine lv_iload_n hx hb dX1_spread_12 rfl (lv_at hl 1 rfl) ?_
        refine lv_aload_n hx hb dX1_spread_13 rfl (lv_at hl 0 rfl) ?_
        refine va_get (D := (dC, dI)) (ci := 1) (v := .ref q2) (C := RX1) (T := TX1) (N := 4) hx hb hts in_X1 hown hK hP 0 rfl rfl 1 (by decide) (hts _ q155) (fun _ h9 => h9) rfl dX1_spread_14 ?_
        refine lv_iload_n hx hb dX1_spread_17 rfl (lv_at hl 1 rfl) ?_
        refine il_ld hx hb hK hP 2 0 rfl rfl h5 (by decide) dX1_spread_18 ?_
        refine il_st hx hb hK hP hD hS 4 0 rfl rfl h5 (by decide) dX1_spread_19 (fun H locs hP hD hS => ?_)
        have hP : va_P (dC, dI) vwCl (WY h0 q1 q2 q3 q4 d nx us se (upd lv1 i (us i))) H := hP
        have hD : va_D A (WY h0 q1 q2 q3 q4 d nx us se (upd lv1 i (us i))) := hD
        refine lv_iinc (v := nI (i + 1)) (lv' := [(1, .int (nI (i + 1))), (0, .ref h0)]) hx hb dX1_spread_20 hl (k := 1) rfl (nI_1 i) (by decide) rfl (fun ls hl => ?_)
        refine lv_goto (tgt := 2) hx hb dX1_spread_23 (by decide) ?_
        exact ih2 (i + 1) (upd lv1 i (us i)) (by omega) (by omega) (by rw [il_up_s, ← e1, im_cpS]) _ _ hP hD hS ls (lv_sub hl [1, 0] rfl)
  exact L2 13 0 lv (by decide) (by decide) rfl _ _ hP hD hS ls (lv_sub hl [1, 0] rfl)
abbrev wsX1_liveIn : List Cond := ws_ yX1_liveIn cX1_liveIn 2 (some .int)
abbrev rmX1_liveIn : Room := il_rm 3 67
set_option maxHeartbeats 4000000 in
set_option maxRecDepth 100000 in
/-- liveIn(b) -/
theorem metX1_liveIn (l : Launch) (dC : Nat → ClassId) (dI : Nat → Nat → Nat) (h0 q1 q2 q3 q4 : Nat) (d : ClassId) (sz : Nat) (nx us se lv : il_F) (p0 : Int32) : Met l yX1_liveIn wsX1_liveIn rmX1_liveIn (il_PM dC dI (WY h0 q1 q2 q3 q4 d nx us se lv) d sz [.ref h0, .int p0]) (va_Qi (fun (r : Int32) (_ : Unit) => r = im_liveIn nx us se lv p0) (il_B dC dI (va_A (WY h0 q1 q2 q3 q4 d nx us se lv) sz) (WY h0 q1 q2 q3 q4 d nx us se (im_liveInL nx us se lv p0)) d) (va_A (WY h0 q1 q2 q3 q4 d nx us se lv) sz)) 0 0 (va_A (WY h0 q1 q2 q3 q4 d nx us se lv) sz) := by
  refine Met.ofW (cc := cX1_liveIn) (maxL := 2) (ret := (some .int)) (by decide) rfl ?_
  intro p e s m args below meth c s₁ B hml hv
  obtain ⟨hargs, hsz, hP, hK, hD0⟩ := hv
  have hx := B.exec
  have hb := B.bytes
  have hr := B.returns
  have hlocks := B.notSynchronized
  have hts : ∀ w ∈ lw_all, w.before args s = true := fun w h => atoms_spec (ws := wsX1_liveIn) B.pre w (List.mem_cons_of_mem _ h)
  have hown : s.vm.findClass RX1 = some m.cls := findClass_of_methodNamed B.named
  have hF : CallFix p m c cX1_liveIn 2 s args lw_all RX1 := ⟨hx, hb, hml, hown, hts⟩
  subst hsz
  have hD := hD0.self (sz := s.heap.size)
  generalize hAe : va_A (WY h0 q1 q2 q3 q4 d nx us se lv) s.heap.size = A at hD ⊢
  have hA : ∀ q : Nat, s.heap.size ≤ q → A q := fun q h => by rw [← hAe]; exact Or.inr h
  have hS : va_S A s.heap s.heap [] := va_S.rf
  refine il_entry (n := 2) (vs := [.ref h0, .int p0]) (Nat.le_of_ble_eq_true rfl) hargs (fun ls hl => ?_)
  have hl : lv_has ls 2 [(0, .ref h0), (1, .int p0)] := hl
  generalize hQ : MQ below (va_Qi (fun (r : Int32) (_ : Unit) => r = im_liveIn nx us se lv p0) (il_B dC dI A (WY h0 q1 q2 q3 q4 d nx us se (im_liveInL nx us se lv p0)) d) A) args s 0 0 A = Q
  have hP : va_P (dC, dI) vwCl (WY h0 q1 q2 q3 q4 d nx us se lv) s.heap := hP
  refine lv_aload_n hx hb dX1_liveIn_0 rfl (lv_at hl 0 rfl) ?_
  refine lv_iload_n hx hb dX1_liveIn_1 rfl (lv_at hl 1 rfl) ?_
  refine il_callR (As := [.int p0]) (rest := []) (v := im_isB p0) hF hK hP 1 rfl rfl (metX1_isBlock l dC dI h0 q1 q2 q3 q4 d nx us se lv p0) (cwV 1 hts (lw_V q171 q173 qs11 q21 q174) rfl rfl rfl (by decide +kernel) ⟨Nat.le_of_ble_eq_true rfl, Nat.le_of_ble_eq_true rfl⟩) rfl hl.1 (Nat.le_of_ble_eq_true rfl) dX1_liveIn_2 ⟨Nat.le_of_ble_eq_true rfl, Nat.le_of_ble_eq_true rfl⟩ rfl ?_
  refine lv_if_ne (tgt := 10) hx hb dX1_liveIn_5 (by decide) (fun c5 => ?_) (fun c5 => ?_)
  · have c5 : ¬ im_isB p0 = 0 := c5
    obtain ⟨b, hb12, rfl⟩ := im_isB_in c5
    refine lv_aload_n hx hb dX1_liveIn_10 rfl (lv_at hl 0 rfl) ?_
    refine il_callMv (As := []) (rest := []) (ws := WY h0 q1 q2 q3 q4 d nx us se lv) (wr := []) (ws1 := WY h0 q1 q2 q3 q4 d nx us se (im_spread nx us se lv)) hF hK hP hD hS hA [0, 1, 2, 3, 4] [] rfl rfl (by decide) (by decide) (by decide) hP 1 rfl rfl (metX1_spread l dC dI h0 q1 q2 q3 q4 d _ nx us se lv ) (cwV 0 hts (lw_V q216 q218 qs15 q21 q219) rfl rfl rfl (by decide +kernel) ⟨Nat.le_of_ble_eq_true rfl, Nat.le_of_ble_eq_true rfl⟩) rfl hl.1 (Nat.le_of_ble_eq_true rfl) dX1_liveIn_11 ⟨Nat.le_of_ble_eq_true rfl, Nat.le_of_ble_eq_true rfl⟩ rfl (fun H locs hP hD hS => ?_)
    have hP : va_P (dC, dI) vwCl (WY h0 q1 q2 q3 q4 d nx us se (im_spread nx us se lv)) H := hP
    have hD : va_D A (WY h0 q1 q2 q3 q4 d nx us se (im_spread nx us se lv)) := hD
    refine lv_aload_n hx hb dX1_liveIn_14 rfl (lv_at hl 0 rfl) ?_
    refine va_get (D := (dC, dI)) (ci := 1) (v := .ref q4) (C := RX1) (T := TX1) (N := 4) hx hb hts in_X1 hown hK hP 0 rfl rfl 3 (by decide) (hts _ q157) (fun _ h9 => h9) rfl dX1_liveIn_15 ?_
    refine lv_iload_n hx hb dX1_liveIn_18 rfl (lv_at hl 1 rfl) ?_
    refine il_ld hx hb hK hP 4 0 rfl rfl hb12 (by decide) dX1_liveIn_19 ?_
    exact il_retiM hx hb hr hlocks dX1_liveIn_20 hQ hK hP hD hS (by rw [im_liveInL, if_neg c5]) (by rw [im_liveIn, if_neg c5, il_nat_nI (i := b) (by omega)])
  · have c5 : im_isB p0 = 0 := c5
    refine lv_iconst (v := (-1)) hx hb dX1_liveIn_8 (by decide) ?_
    exact il_retiM hx hb hr hlocks dX1_liveIn_9 hQ hK hP hD hS (by rw [im_liveInL, if_pos c5]) (by rw [im_liveIn, if_pos c5])
abbrev wsX1_liveOut : List Cond := ws_ yX1_liveOut cX1_liveOut 2 (some .int)
abbrev rmX1_liveOut : Room := il_rm 3 67
set_option maxHeartbeats 4000000 in
set_option maxRecDepth 100000 in
/-- liveOut(b) -/
theorem metX1_liveOut (l : Launch) (dC : Nat → ClassId) (dI : Nat → Nat → Nat) (h0 q1 q2 q3 q4 : Nat) (d : ClassId) (sz : Nat) (nx us se lv : il_F) (p0 : Int32) : Met l yX1_liveOut wsX1_liveOut rmX1_liveOut (il_PM dC dI (WY h0 q1 q2 q3 q4 d nx us se lv) d sz [.ref h0, .int p0]) (va_Qi (fun (r : Int32) (_ : Unit) => r = im_liveOut nx us se lv p0) (il_B dC dI (va_A (WY h0 q1 q2 q3 q4 d nx us se lv) sz) (WY h0 q1 q2 q3 q4 d nx us se (im_liveInL nx us se lv p0)) d) (va_A (WY h0 q1 q2 q3 q4 d nx us se lv) sz)) 0 0 (va_A (WY h0 q1 q2 q3 q4 d nx us se lv) sz) := by
  refine Met.ofW (cc := cX1_liveOut) (maxL := 2) (ret := (some .int)) (by decide) rfl ?_
  intro p e s m args below meth c s₁ B hml hv
  obtain ⟨hargs, hsz, hP, hK, hD0⟩ := hv
  have hx := B.exec
  have hb := B.bytes
  have hr := B.returns
  have hlocks := B.notSynchronized
  have hts : ∀ w ∈ lw_all, w.before args s = true := fun w h => atoms_spec (ws := wsX1_liveOut) B.pre w (List.mem_cons_of_mem _ h)
  have hown : s.vm.findClass RX1 = some m.cls := findClass_of_methodNamed B.named
  have hF : CallFix p m c cX1_liveOut 2 s args lw_all RX1 := ⟨hx, hb, hml, hown, hts⟩
  subst hsz
  have hD := hD0.self (sz := s.heap.size)
  generalize hAe : va_A (WY h0 q1 q2 q3 q4 d nx us se lv) s.heap.size = A at hD ⊢
  have hA : ∀ q : Nat, s.heap.size ≤ q → A q := fun q h => by rw [← hAe]; exact Or.inr h
  have hS : va_S A s.heap s.heap [] := va_S.rf
  refine il_entry (n := 2) (vs := [.ref h0, .int p0]) (Nat.le_of_ble_eq_true rfl) hargs (fun ls hl => ?_)
  have hl : lv_has ls 2 [(0, .ref h0), (1, .int p0)] := hl
  generalize hQ : MQ below (va_Qi (fun (r : Int32) (_ : Unit) => r = im_liveOut nx us se lv p0) (il_B dC dI A (WY h0 q1 q2 q3 q4 d nx us se (im_liveInL nx us se lv p0)) d) A) args s 0 0 A = Q
  have hP : va_P (dC, dI) vwCl (WY h0 q1 q2 q3 q4 d nx us se lv) s.heap := hP
  refine lv_aload_n hx hb dX1_liveOut_0 rfl (lv_at hl 0 rfl) ?_
  refine lv_iload_n hx hb dX1_liveOut_1 rfl (lv_at hl 1 rfl) ?_
  refine il_callR (As := [.int p0]) (rest := []) (v := im_isB p0) hF hK hP 1 rfl rfl (metX1_isBlock l dC dI h0 q1 q2 q3 q4 d nx us se lv p0) (cwV 1 hts (lw_V q171 q173 qs11 q21 q174) rfl rfl rfl (by decide +kernel) ⟨Nat.le_of_ble_eq_true rfl, Nat.le_of_ble_eq_true rfl⟩) rfl hl.1 (Nat.le_of_ble_eq_true rfl) dX1_liveOut_2 ⟨Nat.le_of_ble_eq_true rfl, Nat.le_of_ble_eq_true rfl⟩ rfl ?_
  refine lv_if_ne (tgt := 10) hx hb dX1_liveOut_5 (by decide) (fun c5 => ?_) (fun c5 => ?_)
  · have c5 : ¬ im_isB p0 = 0 := c5
    obtain ⟨b, hb12, rfl⟩ := im_isB_in c5
    refine lv_aload_n hx hb dX1_liveOut_10 rfl (lv_at hl 0 rfl) ?_
    refine il_callMv (As := []) (rest := []) (ws := WY h0 q1 q2 q3 q4 d nx us se lv) (wr := []) (ws1 := WY h0 q1 q2 q3 q4 d nx us se (im_spread nx us se lv)) hF hK hP hD hS hA [0, 1, 2, 3, 4] [] rfl rfl (by decide) (by decide) (by decide) hP 1 rfl rfl (metX1_spread l dC dI h0 q1 q2 q3 q4 d _ nx us se lv ) (cwV 0 hts (lw_V q216 q218 qs15 q21 q219) rfl rfl rfl (by decide +kernel) ⟨Nat.le_of_ble_eq_true rfl, Nat.le_of_ble_eq_true rfl⟩) rfl hl.1 (Nat.le_of_ble_eq_true rfl) dX1_liveOut_11 ⟨Nat.le_of_ble_eq_true rfl, Nat.le_of_ble_eq_true rfl⟩ rfl (fun H locs hP hD hS => ?_)
    have hP : va_P (dC, dI) vwCl (WY h0 q1 q2 q3 q4 d nx us se (im_spread nx us se lv)) H := hP
    have hD : va_D A (WY h0 q1 q2 q3 q4 d nx us se (im_spread nx us se lv)) := hD
    refine lv_aload_n hx hb dX1_liveOut_14 rfl (lv_at hl 0 rfl) ?_
    refine lv_iload_n hx hb dX1_liveOut_15 rfl (lv_at hl 1 rfl) ?_
    refine il_callR (As := [.int (nI b)]) (rest := []) (v := im_behind nx (im_spread nx us se lv) b) hF hK hP 1 rfl rfl (metX1_behind l dC dI h0 q1 q2 q3 q4 d nx us se (im_spread nx us se lv) b hb12) (cwV 1 hts (lw_V q220 q222 qs16 q21 q223) rfl rfl rfl (by decide +kernel) ⟨Nat.le_of_ble_eq_true rfl, Nat.le_of_ble_eq_true rfl⟩) rfl hl.1 (Nat.le_of_ble_eq_true rfl) dX1_liveOut_16 ⟨Nat.le_of_ble_eq_true rfl, Nat.le_of_ble_eq_true rfl⟩ rfl ?_
    exact il_retiM hx hb hr hlocks dX1_liveOut_19 hQ hK hP hD hS (by rw [im_liveInL, if_neg c5]) (by rw [im_liveOut, if_neg c5, il_nat_nI (i := b) (by omega)])
  · have c5 : im_isB p0 = 0 := c5
    refine lv_iconst (v := (-1)) hx hb dX1_liveOut_8 (by decide) ?_
    exact il_retiM hx hb hr hlocks dX1_liveOut_9 hQ hK hP hD hS (by rw [im_liveInL, if_pos c5]) (by rw [im_liveOut, if_pos c5])
abbrev wsX1_liveBlocks : List Cond := ws_ yX1_liveBlocks cX1_liveBlocks 4 (some .int)
abbrev rmX1_liveBlocks : Room := il_rm 3 67
set_option maxHeartbeats 4000000 in
set_option maxRecDepth 100000 in
/-- liveBlocks(v) -/
theorem metX1_liveBlocks (l : Launch) (dC : Nat → ClassId) (dI : Nat → Nat → Nat) (h0 q1 q2 q3 q4 : Nat) (d : ClassId) (sz : Nat) (nx us se lv : il_F) (p0 : Int32) : Met l yX1_liveBlocks wsX1_liveBlocks rmX1_liveBlocks (il_PM dC dI (WY h0 q1 q2 q3 q4 d nx us se lv) d sz [.ref h0, .int p0]) (va_Qi (fun (r : Int32) (_ : Unit) => r = im_liveBlocks nx us se lv p0) (il_B dC dI (va_A (WY h0 q1 q2 q3 q4 d nx us se lv) sz) (WY h0 q1 q2 q3 q4 d nx us se (im_liveBlocksL nx us se lv p0)) d) (va_A (WY h0 q1 q2 q3 q4 d nx us se lv) sz)) 0 0 (va_A (WY h0 q1 q2 q3 q4 d nx us se lv) sz) := by
  refine Met.ofW (cc := cX1_liveBlocks) (maxL := 4) (ret := (some .int)) (by decide) rfl ?_
  intro p e s m args below meth c s₁ B hml hv
  obtain ⟨hargs, hsz, hP, hK, hD0⟩ := hv
  have hx := B.exec
  have hb := B.bytes
  have hr := B.returns
  have hlocks := B.notSynchronized
  have hts : ∀ w ∈ lw_all, w.before args s = true := fun w h => atoms_spec (ws := wsX1_liveBlocks) B.pre w (List.mem_cons_of_mem _ h)
  have hown : s.vm.findClass RX1 = some m.cls := findClass_of_methodNamed B.named
  have hF : CallFix p m c cX1_liveBlocks 4 s args lw_all RX1 := ⟨hx, hb, hml, hown, hts⟩
  subst hsz
  have hD := hD0.self (sz := s.heap.size)
  generalize hAe : va_A (WY h0 q1 q2 q3 q4 d nx us se lv) s.heap.size = A at hD ⊢
  have hA : ∀ q : Nat, s.heap.size ≤ q → A q := fun q h => by rw [← hAe]; exact Or.inr h
  have hS : va_S A s.heap s.heap [] := va_S.rf
  refine il_entry (n := 4) (vs := [.ref h0, .int p0]) (Nat.le_of_ble_eq_true rfl) hargs (fun ls hl => ?_)
  have hl : lv_has ls 4 [(0, .ref h0), (1, .int p0)] := hl
  generalize hQ : MQ below (va_Qi (fun (r : Int32) (_ : Unit) => r = im_liveBlocks nx us se lv p0) (il_B dC dI A (WY h0 q1 q2 q3 q4 d nx us se (im_liveBlocksL nx us se lv p0)) d) A) args s 0 0 A = Q
  have hP : va_P (dC, dI) vwCl (WY h0 q1 q2 q3 q4 d nx us se lv) s.heap := hP
  refine lv_aload_n hx hb dX1_liveBlocks_0 rfl (lv_at hl 0 rfl) ?_
  refine lv_iload_n hx hb dX1_liveBlocks_1 rfl (lv_at hl 1 rfl) ?_
  refine il_callR (As := [.int p0]) (rest := []) (v := im_isV p0) hF hK hP 1 rfl rfl (metX1_isVariable l dC dI h0 q1 q2 q3 q4 d nx us se lv p0) (cwV 1 hts (lw_V q187 q189 qs13 q21 q190) rfl rfl rfl (by decide +kernel) ⟨Nat.le_of_ble_eq_true rfl, Nat.le_of_ble_eq_true rfl⟩) rfl hl.1 (Nat.le_of_ble_eq_true rfl) dX1_liveBlocks_2 ⟨Nat.le_of_ble_eq_true rfl, Nat.le_of_ble_eq_true rfl⟩ rfl ?_
  refine lv_if_ne (tgt := 10) hx hb dX1_liveBlocks_5 (by decide) (fun c5 => ?_) (fun c5 => ?_)
  · have c5 : ¬ im_isV p0 = 0 := c5
    obtain ⟨v, hv20, rfl⟩ := im_isV_in c5
    refine lv_aload_n hx hb dX1_liveBlocks_10 rfl (lv_at hl 0 rfl) ?_
    refine il_callMv (As := []) (rest := []) (ws := WY h0 q1 q2 q3 q4 d nx us se lv) (wr := []) (ws1 := WY h0 q1 q2 q3 q4 d nx us se (im_spread nx us se lv)) hF hK hP hD hS hA [0, 1, 2, 3, 4] [] rfl rfl (by decide) (by decide) (by decide) hP 1 rfl rfl (metX1_spread l dC dI h0 q1 q2 q3 q4 d _ nx us se lv ) (cwV 0 hts (lw_V q216 q218 qs15 q21 q219) rfl rfl rfl (by decide +kernel) ⟨Nat.le_of_ble_eq_true rfl, Nat.le_of_ble_eq_true rfl⟩) rfl hl.1 (Nat.le_of_ble_eq_true rfl) dX1_liveBlocks_11 ⟨Nat.le_of_ble_eq_true rfl, Nat.le_of_ble_eq_true rfl⟩ rfl (fun H locs hP hD hS => ?_)
    have hP : va_P (dC, dI) vwCl (WY h0 q1 q2 q3 q4 d nx us se (im_spread nx us se lv)) H := hP
    have hD : va_D A (WY h0 q1 q2 q3 q4 d nx us se (im_spread nx us se lv)) := hD
    refine lv_iconst (v := 0) hx hb dX1_liveBlocks_14 (by decide) ?_
    refine lv_istore_n (lv' := [(2, .int 0), (0, .ref h0), (1, .int (nI v))]) hx hb dX1_liveBlocks_15 rfl hl (by decide) rfl (fun ls hl => ?_)
    refine lv_iconst (v := 0) hx hb dX1_liveBlocks_16 (by decide) ?_
    refine lv_istore_n (lv' := [(3, .int 0), (2, .int 0), (0, .ref h0), (1, .int (nI v))]) hx hb dX1_liveBlocks_17 rfl hl (by decide) rfl (fun ls hl => ?_)
    have L18 : ∀ (n18 : Nat) (i : Nat) (x2 : Int32), 13 ≤ i + n18 → i ≤ 12 → x2 = il_up (im_lbS (im_spread nx us se lv) v) i 0 → ∀ (H : Heap) (locs : List Loc), va_P (dC, dI) vwCl (WY h0 q1 q2 q3 q4 d nx us se (im_spread nx us se lv)) H → va_D A (WY h0 q1 q2 q3 q4 d nx us se (im_spread nx us se lv)) → va_S A s.heap H locs → ∀ ls : Array Slot, lv_has ls 4 [(0, .ref h0), (1, .int (nI v)), (2, .int x2), (3, .int (nI i))] → W p l e (headSpec wsX1_liveBlocks rmX1_liveBlocks).room s m args below meth c H locs 0 0 Q (F0 m 18 ls []) := by
      intro n18
      induction n18 with
      | zero =>
        intro i x2 hfu hi e2
        exact absurd hfu (by omega)
      | succ n18 ih18 =>
        intro i x2 hfu hi e2 H locs hP hD hS ls hl
        refine lv_iload_n hx hb dX1_liveBlocks_18 rfl (lv_at hl 3 rfl) ?_
        refine lv_bipush (v := 12) hx hb dX1_liveBlocks_19 (by decide) ?_
        refine lv_icmp_ge (tgt := 54) hx hb dX1_liveBlocks_21 (by decide) (fun c21 => ?_) (fun c21 => ?_)
        · have c21 : 12 ≤ nI i := c21
          have h21 : 12 ≤ i := il_ge (N := 12) (i := i) c21 (by omega) (by omega)
          refine lv_iload_n hx hb dX1_liveBlocks_54 rfl (lv_at hl 2 rfl) ?_
          exact il_retiM hx hb hr hlocks dX1_liveBlocks_55 hQ hK hP hD hS (by rw [im_liveBlocksL, if_neg c5]) (by rw [im_liveBlocks, if_neg c5, il_nat_nI (i := v) (by omega), e2, show i = 12 by omega])
        · have c21 : ¬ 12 ≤ nI i := c21
          have h21 : i < 12 := il_nge (N := 12) (i := i) c21 (by omega)
          refine lv_aload_n hx hb dX1_liveBlocks_24 rfl (lv_at hl 0 rfl) ?_
          refine lv_aload_n hx hb dX1_liveBlocks_25 rfl (lv_at hl 0 rfl) ?_
          refine va_get (D := (dC, dI)) (ci := 1) (v := .ref q4) (C := RX1) (T := TX1) (N := 4) hx hb hts in_X1 hown hK hP 0 rfl rfl 3 (by decide) (hts _ q157) (fun _ h9 => h9) rfl dX1_liveBlocks_26 ?_
          refine lv_iload_n hx hb dX1_liveBlocks_29 rfl (lv_at hl 3 rfl) ?_
          refine il_ld hx hb hK hP 4 0 rfl rfl h21 (by decide) dX1_liveBlocks_30 ?_
          refine lv_iload_n hx hb dX1_liveBlocks_31 rfl (lv_at hl 1 rfl) ?_
          refine il_callR (As := [.int ((im_spread nx us se lv) i), .int (nI v)]) (rest := []) (v := im_has ((im_spread nx us se lv) i) v) hF hK hP 1 rfl rfl (metX1_has l dC dI h0 q1 q2 q3 q4 d nx us se (im_spread nx us se lv) ((im_spread nx us se lv) i) v) (cwV 2 hts (lw_V q179 q181 qs12 q21 q182) rfl rfl rfl (by decide +kernel) ⟨Nat.le_of_ble_eq_true rfl, Nat.le_of_ble_eq_true rfl⟩) rfl hl.1 (Nat.le_of_ble_eq_true rfl) dX1_liveBlocks_32 ⟨Nat.le_of_ble_eq_true rfl, Nat.le_of_ble_eq_true rfl⟩ rfl ?_
          refine lv_if_eq (tgt := 46) hx hb dX1_liveBlocks_35 (by decide) (fun c35 => ?_) (fun c35 => ?_)
          · have c35 : im_has ((im_spread nx us se lv) i) v = 0 := c35
            refine lv_iload_n hx hb dX1_liveBlocks_46 rfl (lv_at hl 2 rfl) ?_
            refine lv_istore_n (lv' := [(2, .int x2), (0, .ref h0), (1, .int (nI v)), (3, .int (nI i))]) hx hb dX1_liveBlocks_47 rfl hl (by decide) rfl (fun ls hl => ?_)
            refine lv_iinc (v := nI (i + 1)) (lv' := [(3, .int (nI (i + 1))), (2, .int x2), (0, .ref h0), (1, .int (nI v))]) hx hb dX1_liveBlocks_48 hl (k := 3) rfl (nI_1 i) (by decide) rfl (fun ls hl => ?_)
            refine lv_goto (tgt := 18) hx hb dX1_liveBlocks_51 (by decide) ?_
            exact ih18 (i + 1) x2 (by omega) (by omega) (by rw [il_up_s, ← e2, im_lbS, if_pos c35]) _ _ hP hD hS ls (lv_sub hl [2, 3, 1, 0] rfl)
          · have c35 : ¬ im_has ((im_spread nx us se lv) i) v = 0 := c35
            refine lv_iload_n hx hb dX1_liveBlocks_38 rfl (lv_at hl 2 rfl) ?_
            refine lv_iconst (v := 1) hx hb dX1_liveBlocks_39 (by decide) ?_
            refine lv_iload_n hx hb dX1_liveBlocks_40 rfl (lv_at hl 3 rfl) ?_
            refine lv_ishl hx hb dX1_liveBlocks_41 ?_
            refine lv_ior hx hb dX1_liveBlocks_42 ?_
            refine lv_goto (tgt := 47) hx hb dX1_liveBlocks_43 (by decide) ?_
            refine lv_istore_n (lv' := [(2, .int (x2 ||| (il_o i))), (0, .ref h0), (1, .int (nI v)), (3, .int (nI i))]) hx hb dX1_liveBlocks_47 rfl hl (by decide) rfl (fun ls hl => ?_)
            refine lv_iinc (v := nI (i + 1)) (lv' := [(3, .int (nI (i + 1))), (2, .int (x2 ||| (il_o i))), (0, .ref h0), (1, .int (nI v))]) hx hb dX1_liveBlocks_48 hl (k := 3) rfl (nI_1 i) (by decide) rfl (fun ls hl => ?_)
            refine lv_goto (tgt := 18) hx hb dX1_liveBlocks_51 (by decide) ?_
            exact ih18 (i + 1) (x2 ||| (il_o i)) (by omega) (by omega) (by rw [il_up_s, ← e2, im_lbS, if_neg c35]) _ _ hP hD hS ls (lv_sub hl [2, 3, 1, 0] rfl)
    exact L18 13 0 0 (by decide) (by decide) rfl _ _ hP hD hS ls (lv_sub hl [2, 3, 1, 0] rfl)
  · have c5 : im_isV p0 = 0 := c5
    refine lv_iconst (v := (-1)) hx hb dX1_liveBlocks_8 (by decide) ?_
    exact il_retiM hx hb hr hlocks dX1_liveBlocks_9 hQ hK hP hD hS (by rw [im_liveBlocksL, if_pos c5]) (by rw [im_liveBlocks, if_pos c5])
abbrev wsX1_idleSets : List Cond := ws_ yX1_idleSets cX1_idleSets 4 (some .int)
abbrev rmX1_idleSets : Room := il_rm 3 67
set_option maxHeartbeats 4000000 in
set_option maxRecDepth 100000 in
/-- idleSets() -/
theorem metX1_idleSets (l : Launch) (dC : Nat → ClassId) (dI : Nat → Nat → Nat) (h0 q1 q2 q3 q4 : Nat) (d : ClassId) (sz : Nat) (nx us se lv : il_F) : Met l yX1_idleSets wsX1_idleSets rmX1_idleSets (il_PM dC dI (WY h0 q1 q2 q3 q4 d nx us se lv) d sz [.ref h0]) (va_Qi (fun (r : Int32) (_ : Unit) => r = im_idle nx us se lv) (il_B dC dI (va_A (WY h0 q1 q2 q3 q4 d nx us se lv) sz) (WY h0 q1 q2 q3 q4 d nx us se (im_spread nx us se lv)) d) (va_A (WY h0 q1 q2 q3 q4 d nx us se lv) sz)) 0 0 (va_A (WY h0 q1 q2 q3 q4 d nx us se lv) sz) := by
  refine Met.ofW (cc := cX1_idleSets) (maxL := 4) (ret := (some .int)) (by decide) rfl ?_
  intro p e s m args below meth c s₁ B hml hv
  obtain ⟨hargs, hsz, hP, hK, hD0⟩ := hv
  have hx := B.exec
  have hb := B.bytes
  have hr := B.returns
  have hlocks := B.notSynchronized
  have hts : ∀ w ∈ lw_all, w.before args s = true := fun w h => atoms_spec (ws := wsX1_idleSets) B.pre w (List.mem_cons_of_mem _ h)
  have hown : s.vm.findClass RX1 = some m.cls := findClass_of_methodNamed B.named
  have hF : CallFix p m c cX1_idleSets 4 s args lw_all RX1 := ⟨hx, hb, hml, hown, hts⟩
  subst hsz
  have hD := hD0.self (sz := s.heap.size)
  generalize hAe : va_A (WY h0 q1 q2 q3 q4 d nx us se lv) s.heap.size = A at hD ⊢
  have hA : ∀ q : Nat, s.heap.size ≤ q → A q := fun q h => by rw [← hAe]; exact Or.inr h
  have hS : va_S A s.heap s.heap [] := va_S.rf
  refine il_entry (n := 4) (vs := [.ref h0]) (Nat.le_of_ble_eq_true rfl) hargs (fun ls hl => ?_)
  have hl : lv_has ls 4 [(0, .ref h0)] := hl
  generalize hQ : MQ below (va_Qi (fun (r : Int32) (_ : Unit) => r = im_idle nx us se lv) (il_B dC dI A (WY h0 q1 q2 q3 q4 d nx us se (im_spread nx us se lv)) d) A) args s 0 0 A = Q
  have hP : va_P (dC, dI) vwCl (WY h0 q1 q2 q3 q4 d nx us se lv) s.heap := hP
  refine lv_aload_n hx hb dX1_idleSets_0 rfl (lv_at hl 0 rfl) ?_
  refine il_callMv (As := []) (rest := []) (ws := WY h0 q1 q2 q3 q4 d nx us se lv) (wr := []) (ws1 := WY h0 q1 q2 q3 q4 d nx us se (im_spread nx us se lv)) hF hK hP hD hS hA [0, 1, 2, 3, 4] [] rfl rfl (by decide) (by decide) (by decide) hP 1 rfl rfl (metX1_spread l dC dI h0 q1 q2 q3 q4 d _ nx us se lv ) (cwV 0 hts (lw_V q216 q218 qs15 q21 q219) rfl rfl rfl (by decide +kernel) ⟨Nat.le_of_ble_eq_true rfl, Nat.le_of_ble_eq_true rfl⟩) rfl hl.1 (Nat.le_of_ble_eq_true rfl) dX1_idleSets_1 ⟨Nat.le_of_ble_eq_true rfl, Nat.le_of_ble_eq_true rfl⟩ rfl (fun H locs hP hD hS => ?_)
  have hP : va_P (dC, dI) vwCl (WY h0 q1 q2 q3 q4 d nx us se (im_spread nx us se lv)) H := hP
  have hD : va_D A (WY h0 q1 q2 q3 q4 d nx us se (im_spread nx us se lv)) := hD
  refine lv_iconst (v := 0) hx hb dX1_idleSets_4 (by decide) ?_
  refine lv_istore_n (lv' := [(1, .int 0), (0, .ref h0)]) hx hb dX1_idleSets_5 rfl hl (by decide) rfl (fun ls hl => ?_)
  refine lv_iconst (v := 0) hx hb dX1_idleSets_6 (by decide) ?_
  refine lv_istore_n (lv' := [(2, .int 0), (1, .int 0), (0, .ref h0)]) hx hb dX1_idleSets_7 rfl hl (by decide) rfl (fun ls hl => ?_)
  have L8 : ∀ (n8 : Nat) (i : Nat) (x1 : Int32), 13 ≤ i + n8 → i ≤ 12 → x1 = il_up (im_idS nx se (im_spread nx us se lv)) i 0 → ∀ (H : Heap) (locs : List Loc), va_P (dC, dI) vwCl (WY h0 q1 q2 q3 q4 d nx us se (im_spread nx us se lv)) H → va_D A (WY h0 q1 q2 q3 q4 d nx us se (im_spread nx us se lv)) → va_S A s.heap H locs → ∀ ls : Array Slot, lv_has ls 4 [(0, .ref h0), (1, .int x1), (2, .int (nI i))] → W p l e (headSpec wsX1_idleSets rmX1_idleSets).room s m args below meth c H locs 0 0 Q (F0 m 8 ls []) := by
    intro n8
    induction n8 with
    | zero =>
      intro i x1 hfu hi e1
      exact absurd hfu (by omega)
    | succ n8 ih8 =>
      intro i x1 hfu hi e1 H locs hP hD hS ls hl
      refine lv_iload_n hx hb dX1_idleSets_8 rfl (lv_at hl 2 rfl) ?_
      refine lv_bipush (v := 12) hx hb dX1_idleSets_9 (by decide) ?_
      refine lv_icmp_ge (tgt := 43) hx hb dX1_idleSets_11 (by decide) (fun c11 => ?_) (fun c11 => ?_)
      · have c11 : 12 ≤ nI i := c11
        have h11 : 12 ≤ i := il_ge (N := 12) (i := i) c11 (by omega) (by omega)
        refine lv_iload_n hx hb dX1_idleSets_43 rfl (lv_at hl 1 rfl) ?_
        exact il_retiM hx hb hr hlocks dX1_idleSets_44 hQ hK hP hD hS (rfl) (by rw [e1, im_idle, show i = 12 by omega])
      · have c11 : ¬ 12 ≤ nI i := c11
        have h11 : i < 12 := il_nge (N := 12) (i := i) c11 (by omega)
        refine lv_aload_n hx hb dX1_idleSets_14 rfl (lv_at hl 0 rfl) ?_
        refine lv_iload_n hx hb dX1_idleSets_15 rfl (lv_at hl 2 rfl) ?_
        refine il_callR (As := [.int (nI i)]) (rest := []) (v := im_behind nx (im_spread nx us se lv) i) hF hK hP 1 rfl rfl (metX1_behind l dC dI h0 q1 q2 q3 q4 d nx us se (im_spread nx us se lv) i h11) (cwV 1 hts (lw_V q220 q222 qs16 q21 q223) rfl rfl rfl (by decide +kernel) ⟨Nat.le_of_ble_eq_true rfl, Nat.le_of_ble_eq_true rfl⟩) rfl hl.1 (Nat.le_of_ble_eq_true rfl) dX1_idleSets_16 ⟨Nat.le_of_ble_eq_true rfl, Nat.le_of_ble_eq_true rfl⟩ rfl ?_
        refine lv_istore_n (lv' := [(3, .int (im_behind nx (im_spread nx us se lv) i)), (0, .ref h0), (1, .int x1), (2, .int (nI i))]) hx hb dX1_idleSets_19 rfl hl (by decide) rfl (fun ls hl => ?_)
        refine lv_iload_n hx hb dX1_idleSets_20 rfl (lv_at hl 2 rfl) ?_
        refine lv_aload_n hx hb dX1_idleSets_21 rfl (lv_at hl 1 rfl) ?_
        refine lv_aload_n hx hb dX1_idleSets_22 rfl (lv_at hl 1 rfl) ?_
        refine va_get (D := (dC, dI)) (ci := 1) (v := .ref q3) (C := RX1) (T := TX1) (N := 4) hx hb hts in_X1 hown hK hP 0 rfl rfl 2 (by decide) (hts _ q156) (fun _ h9 => h9) rfl dX1_idleSets_23 ?_
        refine lv_iload_n hx hb dX1_idleSets_26 rfl (lv_at hl 3 rfl) ?_
        refine il_ld hx hb hK hP 3 0 rfl rfl h11 (by decide) dX1_idleSets_27 ?_
        refine lv_iload_n hx hb dX1_idleSets_28 rfl (lv_at hl 0 rfl) ?_
        refine lv_iconst (v := (-1)) hx hb dX1_idleSets_29 (by decide) ?_
        refine lv_ixor hx hb dX1_idleSets_30 ?_
        refine lv_iand hx hb dX1_idleSets_31 ?_
        refine il_callR (As := [.int ((se i) &&& (il_n (im_behind nx (im_spread nx us se lv) i)))]) (rest := [.int x1]) (v := im_size ((se i) &&& (il_n (im_behind nx (im_spread nx us se lv) i)))) hF hK hP 1 rfl rfl (metX1_sizeOf l dC dI h0 q1 q2 q3 q4 d nx us se (im_spread nx us se lv) ((se i) &&& (il_n (im_behind nx (im_spread nx us se lv) i)))) (cwV 1 hts (lw_V q204 q206 qs14 q21 q207) rfl rfl rfl (by decide +kernel) ⟨Nat.le_of_ble_eq_true rfl, Nat.le_of_ble_eq_true rfl⟩) rfl hl.1 (Nat.le_of_ble_eq_true rfl) dX1_idleSets_32 ⟨Nat.le_of_ble_eq_true rfl, Nat.le_of_ble_eq_true rfl⟩ rfl ?_
        refine lv_iadd hx hb dX1_idleSets_35 ?_
        refine lv_istore_n (lv' := [(1, .int (x1 + (im_size ((se i) &&& (il_n (im_behind nx (im_spread nx us se lv) i)))))), (3, .int (im_behind nx (im_spread nx us se lv) i)), (0, .ref h0), (2, .int (nI i))]) hx hb dX1_idleSets_36 rfl hl (by decide) rfl (fun ls hl => ?_)
        refine lv_iinc (v := nI (i + 1)) (lv' := [(2, .int (nI (i + 1))), (1, .int (x1 + (im_size ((se i) &&& (il_n (im_behind nx (im_spread nx us se lv) i)))))), (3, .int (im_behind nx (im_spread nx us se lv) i)), (0, .ref h0)]) hx hb dX1_idleSets_37 hl (k := 3) rfl (nI_1 i) (by decide) rfl (fun ls hl => ?_)
        refine lv_goto (tgt := 8) hx hb dX1_idleSets_40 (by decide) ?_
        exact ih8 (i + 1) (x1 + (im_size ((se i) &&& (il_n (im_behind nx (im_spread nx us se lv) i))))) (by omega) (by omega) (by rw [il_up_s, ← e1, im_idS]) _ _ hP hD hS ls (lv_sub hl [3, 1, 0] rfl)
  exact L8 13 0 0 (by decide) (by decide) rfl _ _ hP hD hS ls (lv_sub hl [2, 1, 0] rfl)
abbrev wsX1_pressure : List Cond := ws_ yX1_pressure cX1_pressure 4 (some .int)
abbrev rmX1_pressure : Room := il_rm 3 67
set_option maxHeartbeats 4000000 in
set_option maxRecDepth 100000 in
/-- pressure() -/
theorem metX1_pressure (l : Launch) (dC : Nat → ClassId) (dI : Nat → Nat → Nat) (h0 q1 q2 q3 q4 : Nat) (d : ClassId) (sz : Nat) (nx us se lv : il_F) : Met l yX1_pressure wsX1_pressure rmX1_pressure (il_PM dC dI (WY h0 q1 q2 q3 q4 d nx us se lv) d sz [.ref h0]) (va_Qi (fun (r : Int32) (_ : Unit) => r = im_press nx us se lv) (il_B dC dI (va_A (WY h0 q1 q2 q3 q4 d nx us se lv) sz) (WY h0 q1 q2 q3 q4 d nx us se (im_spread nx us se lv)) d) (va_A (WY h0 q1 q2 q3 q4 d nx us se lv) sz)) 0 0 (va_A (WY h0 q1 q2 q3 q4 d nx us se lv) sz) := by
  refine Met.ofW (cc := cX1_pressure) (maxL := 4) (ret := (some .int)) (by decide) rfl ?_
  intro p e s m args below meth c s₁ B hml hv
  obtain ⟨hargs, hsz, hP, hK, hD0⟩ := hv
  have hx := B.exec
  have hb := B.bytes
  have hr := B.returns
  have hlocks := B.notSynchronized
  have hts : ∀ w ∈ lw_all, w.before args s = true := fun w h => atoms_spec (ws := wsX1_pressure) B.pre w (List.mem_cons_of_mem _ h)
  have hown : s.vm.findClass RX1 = some m.cls := findClass_of_methodNamed B.named
  have hF : CallFix p m c cX1_pressure 4 s args lw_all RX1 := ⟨hx, hb, hml, hown, hts⟩
  subst hsz
  have hD := hD0.self (sz := s.heap.size)
  generalize hAe : va_A (WY h0 q1 q2 q3 q4 d nx us se lv) s.heap.size = A at hD ⊢
  have hA : ∀ q : Nat, s.heap.size ≤ q → A q := fun q h => by rw [← hAe]; exact Or.inr h
  have hS : va_S A s.heap s.heap [] := va_S.rf
  refine il_entry (n := 4) (vs := [.ref h0]) (Nat.le_of_ble_eq_true rfl) hargs (fun ls hl => ?_)
  have hl : lv_has ls 4 [(0, .ref h0)] := hl
  generalize hQ : MQ below (va_Qi (fun (r : Int32) (_ : Unit) => r = im_press nx us se lv) (il_B dC dI A (WY h0 q1 q2 q3 q4 d nx us se (im_spread nx us se lv)) d) A) args s 0 0 A = Q
  have hP : va_P (dC, dI) vwCl (WY h0 q1 q2 q3 q4 d nx us se lv) s.heap := hP
  refine lv_aload_n hx hb dX1_pressure_0 rfl (lv_at hl 0 rfl) ?_
  refine il_callMv (As := []) (rest := []) (ws := WY h0 q1 q2 q3 q4 d nx us se lv) (wr := []) (ws1 := WY h0 q1 q2 q3 q4 d nx us se (im_spread nx us se lv)) hF hK hP hD hS hA [0, 1, 2, 3, 4] [] rfl rfl (by decide) (by decide) (by decide) hP 1 rfl rfl (metX1_spread l dC dI h0 q1 q2 q3 q4 d _ nx us se lv ) (cwV 0 hts (lw_V q216 q218 qs15 q21 q219) rfl rfl rfl (by decide +kernel) ⟨Nat.le_of_ble_eq_true rfl, Nat.le_of_ble_eq_true rfl⟩) rfl hl.1 (Nat.le_of_ble_eq_true rfl) dX1_pressure_1 ⟨Nat.le_of_ble_eq_true rfl, Nat.le_of_ble_eq_true rfl⟩ rfl (fun H locs hP hD hS => ?_)
  have hP : va_P (dC, dI) vwCl (WY h0 q1 q2 q3 q4 d nx us se (im_spread nx us se lv)) H := hP
  have hD : va_D A (WY h0 q1 q2 q3 q4 d nx us se (im_spread nx us se lv)) := hD
  refine lv_iconst (v := 0) hx hb dX1_pressure_4 (by decide) ?_
  refine lv_istore_n (lv' := [(1, .int 0), (0, .ref h0)]) hx hb dX1_pressure_5 rfl hl (by decide) rfl (fun ls hl => ?_)
  refine lv_iconst (v := 0) hx hb dX1_pressure_6 (by decide) ?_
  refine lv_istore_n (lv' := [(2, .int 0), (1, .int 0), (0, .ref h0)]) hx hb dX1_pressure_7 rfl hl (by decide) rfl (fun ls hl => ?_)
  have L8 : ∀ (n8 : Nat) (i : Nat) (x1 : Int32), 13 ≤ i + n8 → i ≤ 12 → x1 = il_up (im_prS (im_spread nx us se lv)) i 0 → ∀ (H : Heap) (locs : List Loc), va_P (dC, dI) vwCl (WY h0 q1 q2 q3 q4 d nx us se (im_spread nx us se lv)) H → va_D A (WY h0 q1 q2 q3 q4 d nx us se (im_spread nx us se lv)) → va_S A s.heap H locs → ∀ ls : Array Slot, lv_has ls 4 [(0, .ref h0), (1, .int x1), (2, .int (nI i))] → W p l e (headSpec wsX1_pressure rmX1_pressure).room s m args below meth c H locs 0 0 Q (F0 m 8 ls []) := by
    intro n8
    induction n8 with
    | zero =>
      intro i x1 hfu hi e1
      exact absurd hfu (by omega)
    | succ n8 ih8 =>
      intro i x1 hfu hi e1 H locs hP hD hS ls hl
      refine lv_iload_n hx hb dX1_pressure_8 rfl (lv_at hl 2 rfl) ?_
      refine lv_bipush (v := 12) hx hb dX1_pressure_9 (by decide) ?_
      refine lv_icmp_ge (tgt := 42) hx hb dX1_pressure_11 (by decide) (fun c11 => ?_) (fun c11 => ?_)
      · have c11 : 12 ≤ nI i := c11
        have h11 : 12 ≤ i := il_ge (N := 12) (i := i) c11 (by omega) (by omega)
        refine lv_iload_n hx hb dX1_pressure_42 rfl (lv_at hl 1 rfl) ?_
        exact il_retiM hx hb hr hlocks dX1_pressure_43 hQ hK hP hD hS (rfl) (by rw [e1, im_press, show i = 12 by omega])
      · have c11 : ¬ 12 ≤ nI i := c11
        have h11 : i < 12 := il_nge (N := 12) (i := i) c11 (by omega)
        refine lv_aload_n hx hb dX1_pressure_14 rfl (lv_at hl 0 rfl) ?_
        refine lv_aload_n hx hb dX1_pressure_15 rfl (lv_at hl 0 rfl) ?_
        refine va_get (D := (dC, dI)) (ci := 1) (v := .ref q4) (C := RX1) (T := TX1) (N := 4) hx hb hts in_X1 hown hK hP 0 rfl rfl 3 (by decide) (hts _ q157) (fun _ h9 => h9) rfl dX1_pressure_16 ?_
        refine lv_iload_n hx hb dX1_pressure_19 rfl (lv_at hl 2 rfl) ?_
        refine il_ld hx hb hK hP 4 0 rfl rfl h11 (by decide) dX1_pressure_20 ?_
        refine il_callR (As := [.int ((im_spread nx us se lv) i)]) (rest := []) (v := im_size ((im_spread nx us se lv) i)) hF hK hP 1 rfl rfl (metX1_sizeOf l dC dI h0 q1 q2 q3 q4 d nx us se (im_spread nx us se lv) ((im_spread nx us se lv) i)) (cwV 1 hts (lw_V q204 q206 qs14 q21 q207) rfl rfl rfl (by decide +kernel) ⟨Nat.le_of_ble_eq_true rfl, Nat.le_of_ble_eq_true rfl⟩) rfl hl.1 (Nat.le_of_ble_eq_true rfl) dX1_pressure_21 ⟨Nat.le_of_ble_eq_true rfl, Nat.le_of_ble_eq_true rfl⟩ rfl ?_
        refine lv_istore_n (lv' := [(3, .int (im_size ((im_spread nx us se lv) i))), (0, .ref h0), (1, .int x1), (2, .int (nI i))]) hx hb dX1_pressure_24 rfl hl (by decide) rfl (fun ls hl => ?_)
        refine lv_iload_n hx hb dX1_pressure_25 rfl (lv_at hl 0 rfl) ?_
        refine lv_iload_n hx hb dX1_pressure_26 rfl (lv_at hl 2 rfl) ?_
        refine lv_icmp_le (tgt := 34) hx hb dX1_pressure_27 (by decide) (fun c27 => ?_) (fun c27 => ?_)
        · have c27 : im_size ((im_spread nx us se lv) i) ≤ x1 := c27
          refine lv_iload_n hx hb dX1_pressure_34 rfl (lv_at hl 2 rfl) ?_
          refine lv_istore_n (lv' := [(1, .int x1), (3, .int (im_size ((im_spread nx us se lv) i))), (0, .ref h0), (2, .int (nI i))]) hx hb dX1_pressure_35 rfl hl (by decide) rfl (fun ls hl => ?_)
          refine lv_iinc (v := nI (i + 1)) (lv' := [(2, .int (nI (i + 1))), (1, .int x1), (3, .int (im_size ((im_spread nx us se lv) i))), (0, .ref h0)]) hx hb dX1_pressure_36 hl (k := 3) rfl (nI_1 i) (by decide) rfl (fun ls hl => ?_)
          refine lv_goto (tgt := 8) hx hb dX1_pressure_39 (by decide) ?_
          exact ih8 (i + 1) x1 (by omega) (by omega) (by rw [il_up_s, ← e1, im_prS, if_pos c27]) _ _ hP hD hS ls (lv_sub hl [3, 1, 0] rfl)
        · have c27 : ¬ im_size ((im_spread nx us se lv) i) ≤ x1 := c27
          refine lv_iload_n hx hb dX1_pressure_30 rfl (lv_at hl 0 rfl) ?_
          refine lv_goto (tgt := 35) hx hb dX1_pressure_31 (by decide) ?_
          refine lv_istore_n (lv' := [(1, .int (im_size ((im_spread nx us se lv) i))), (3, .int (im_size ((im_spread nx us se lv) i))), (0, .ref h0), (2, .int (nI i))]) hx hb dX1_pressure_35 rfl hl (by decide) rfl (fun ls hl => ?_)
          refine lv_iinc (v := nI (i + 1)) (lv' := [(2, .int (nI (i + 1))), (1, .int (im_size ((im_spread nx us se lv) i))), (3, .int (im_size ((im_spread nx us se lv) i))), (0, .ref h0)]) hx hb dX1_pressure_36 hl (k := 3) rfl (nI_1 i) (by decide) rfl (fun ls hl => ?_)
          refine lv_goto (tgt := 8) hx hb dX1_pressure_39 (by decide) ?_
          exact ih8 (i + 1) (im_size ((im_spread nx us se lv) i)) (by omega) (by omega) (by rw [il_up_s, ← e1, im_prS, if_neg c27]) _ _ hP hD hS ls (lv_sub hl [3, 1, 0] rfl)
  exact L8 13 0 0 (by decide) (by decide) rfl _ _ hP hD hS ls (lv_sub hl [2, 1, 0] rfl)
abbrev wsX1_far : List Cond := ws_ yX1_far cX1_far 6 (some .int)
abbrev rmX1_far : Room := il_rm 1 22
set_option maxHeartbeats 4000000 in
set_option maxRecDepth 100000 in
/-- far(a, v) -/
theorem metX1_far (l : Launch) (dC : Nat → ClassId) (dI : Nat → Nat → Nat) (h0 q1 q2 q3 q4 : Nat) (d : ClassId) (nx us se lv : il_F) (b : Nat) (hb12 : b < 12) (v : Nat) : Met l yX1_far wsX1_far rmX1_far (il_PR dC dI (WY h0 q1 q2 q3 q4 d nx us se lv) d [.ref h0, .int (nI b), .int (nI v)]) (vp_Si (fun r => r = im_far nx se b v)) 0 0 (fun _ => False) := by
  refine Met.ofW (cc := cX1_far) (maxL := 6) (ret := (some .int)) (by decide) rfl ?_
  intro p e s m args below meth c s₁ B hml hv
  obtain ⟨hargs, hP, hK⟩ := hv
  have hx := B.exec
  have hb := B.bytes
  have hr := B.returns
  have hlocks := B.notSynchronized
  have hts : ∀ w ∈ lw_all, w.before args s = true := fun w h => atoms_spec (ws := wsX1_far) B.pre w (List.mem_cons_of_mem _ h)
  have hown : s.vm.findClass RX1 = some m.cls := findClass_of_methodNamed B.named
  have hF : CallFix p m c cX1_far 6 s args lw_all RX1 := ⟨hx, hb, hml, hown, hts⟩
  refine il_entry (n := 6) (vs := [.ref h0, .int (nI b), .int (nI v)]) (Nat.le_of_ble_eq_true rfl) hargs (fun ls hl => ?_)
  have hl : lv_has ls 6 [(0, .ref h0), (1, .int (nI b)), (2, .int (nI v))] := hl
  generalize hQ : MQ below (vp_Si (fun r => r = im_far nx se b v)) args s 0 0 (fun _ => False) = Q
  refine lv_aload_n hx hb dX1_far_0 rfl (lv_at hl 0 rfl) ?_
  refine va_get (D := (dC, dI)) (ci := 1) (v := .ref q1) (C := RX1) (T := TX1) (N := 4) hx hb hts in_X1 hown hK hP 0 rfl rfl 0 (by decide) (hts _ q154) (fun _ h9 => h9) rfl dX1_far_1 ?_
  refine lv_iload_n hx hb dX1_far_4 rfl (lv_at hl 1 rfl) ?_
  refine il_ld hx hb hK hP 1 0 rfl rfl hb12 (by decide) dX1_far_5 ?_
  refine lv_istore_n (lv' := [(3, .int (nx b)), (0, .ref h0), (1, .int (nI b)), (2, .int (nI v))]) hx hb dX1_far_6 rfl hl (by decide) rfl (fun ls hl => ?_)
  refine lv_iconst (v := 0) hx hb dX1_far_7 (by decide) ?_
  refine lv_istore (lv' := [(4, .int 0), (3, .int (nx b)), (0, .ref h0), (1, .int (nI b)), (2, .int (nI v))]) hx hb dX1_far_8 hl (by decide) rfl (fun ls hl => ?_)
  have L10 : ∀ (n10 : Nat) (r : Nat) (x3 : Int32), 13 ≤ r + n10 → r ≤ 12 → x3 = il_up (im_faR nx se v) r (nx b) → ∀ ls : Array Slot, lv_has ls 6 [(0, .ref h0), (1, .int (nI b)), (2, .int (nI v)), (3, .int x3), (4, .int (nI r))] → W p l e (headSpec wsX1_far rmX1_far).room s m args below meth c s.heap [] 0 0 Q (F0 m 10 ls []) := by
    intro n10
    induction n10 with
    | zero =>
      intro r x3 hfu hr1 e3
      exact absurd hfu (by omega)
    | succ n10 ih10 =>
      intro r x3 hfu hr1 e3 ls hl
      refine lv_iload hx hb dX1_far_10 (lv_at hl 4 rfl) ?_
      refine lv_bipush (v := 12) hx hb dX1_far_12 (by decide) ?_
      refine lv_icmp_ge (tgt := 78) hx hb dX1_far_14 (by decide) (fun c14 => ?_) (fun c14 => ?_)
      · have c14 : 12 ≤ nI r := c14
        have h14 : 12 ≤ r := il_ge (N := 12) (i := r) c14 (by omega) (by omega)
        refine lv_iload_n hx hb dX1_far_78 rfl (lv_at hl 3 rfl) ?_
        exact il_reti hx hb hr hlocks dX1_far_79 hQ (by rw [e3, im_far, show r = 12 by omega])
      · have c14 : ¬ 12 ≤ nI r := c14
        have h14 : r < 12 := il_nge (N := 12) (i := r) c14 (by omega)
        refine lv_iconst (v := 0) hx hb dX1_far_17 (by decide) ?_
        refine lv_istore (lv' := [(5, .int 0), (0, .ref h0), (1, .int (nI b)), (2, .int (nI v)), (3, .int x3), (4, .int (nI r))]) hx hb dX1_far_18 hl (by decide) rfl (fun ls hl => ?_)
        have L20 : ∀ (n20 : Nat) (j : Nat) (y3 : Int32), 13 ≤ j + n20 → j ≤ 12 → y3 = il_up (im_faS nx se v) j x3 → ∀ ls : Array Slot, lv_has ls 6 [(0, .ref h0), (1, .int (nI b)), (2, .int (nI v)), (3, .int y3), (4, .int (nI r)), (5, .int (nI j))] → W p l e (headSpec wsX1_far rmX1_far).room s m args below meth c s.heap [] 0 0 Q (F0 m 20 ls []) := by
          intro n20
          induction n20 with
          | zero =>
            intro j y3 hfu hj e5
            exact absurd hfu (by omega)
          | succ n20 ih20 =>
            intro j y3 hfu hj e5 ls hl
            refine lv_iload hx hb dX1_far_20 (lv_at hl 5 rfl) ?_
            refine lv_bipush (v := 12) hx hb dX1_far_22 (by decide) ?_
            refine lv_icmp_ge (tgt := 72) hx hb dX1_far_24 (by decide) (fun c24 => ?_) (fun c24 => ?_)
            · have c24 : 12 ≤ nI j := c24
              have h24 : 12 ≤ j := il_ge (N := 12) (i := j) c24 (by omega) (by omega)
              refine lv_iinc (v := nI (r + 1)) (lv' := [(4, .int (nI (r + 1))), (0, .ref h0), (1, .int (nI b)), (2, .int (nI v)), (3, .int y3), (5, .int (nI j))]) hx hb dX1_far_72 hl (k := 4) rfl (nI_1 r) (by decide) rfl (fun ls hl => ?_)
              refine lv_goto (tgt := 10) hx hb dX1_far_75 (by decide) ?_
              exact ih10 (r + 1) y3 (by omega) (by omega) (by rw [il_up_s, ← e3, im_faR, e5, show j = 12 by omega]) ls (lv_sub hl [1, 2, 3, 4, 0] rfl)
            · have c24 : ¬ 12 ≤ nI j := c24
              have h24 : j < 12 := il_nge (N := 12) (i := j) c24 (by omega)
              refine lv_aload_n hx hb dX1_far_27 rfl (lv_at hl 0 rfl) ?_
              refine lv_iload_n hx hb dX1_far_28 rfl (lv_at hl 3 rfl) ?_
              refine lv_iload hx hb dX1_far_29 (lv_at hl 5 rfl) ?_
              refine il_callR (As := [.int y3, .int (nI j)]) (rest := []) (v := im_has y3 j) hF hK hP 1 rfl rfl (metX1_has l dC dI h0 q1 q2 q3 q4 d nx us se lv y3 j) (cwV 2 hts (lw_V q179 q181 qs12 q21 q182) rfl rfl rfl (by decide +kernel) ⟨Nat.le_of_ble_eq_true rfl, Nat.le_of_ble_eq_true rfl⟩) rfl hl.1 (Nat.le_of_ble_eq_true rfl) dX1_far_31 ⟨Nat.le_of_ble_eq_true rfl, Nat.le_of_ble_eq_true rfl⟩ rfl ?_
              refine lv_if_eq (tgt := 64) hx hb dX1_far_34 (by decide) (fun c34 => ?_) (fun c34 => ?_)
              · have c34 : im_has y3 j = 0 := c34
                refine lv_iload_n hx hb dX1_far_64 rfl (lv_at hl 3 rfl) ?_
                refine lv_istore_n (lv' := [(3, .int y3), (0, .ref h0), (1, .int (nI b)), (2, .int (nI v)), (4, .int (nI r)), (5, .int (nI j))]) hx hb dX1_far_65 rfl hl (by decide) rfl (fun ls hl => ?_)
                refine lv_iinc (v := nI (j + 1)) (lv' := [(5, .int (nI (j + 1))), (3, .int y3), (0, .ref h0), (1, .int (nI b)), (2, .int (nI v)), (4, .int (nI r))]) hx hb dX1_far_66 hl (k := 5) rfl (nI_1 j) (by decide) rfl (fun ls hl => ?_)
                refine lv_goto (tgt := 20) hx hb dX1_far_69 (by decide) ?_
                exact ih20 (j + 1) y3 (by omega) (by omega) (by rw [il_up_s, ← e5, im_faS, if_pos c34]) ls (lv_sub hl [2, 3, 4, 1, 5, 0] rfl)
              · have c34 : ¬ im_has y3 j = 0 := c34
                refine lv_aload_n hx hb dX1_far_37 rfl (lv_at hl 0 rfl) ?_
                refine lv_aload_n hx hb dX1_far_38 rfl (lv_at hl 0 rfl) ?_
                refine va_get (D := (dC, dI)) (ci := 1) (v := .ref q3) (C := RX1) (T := TX1) (N := 4) hx hb hts in_X1 hown hK hP 0 rfl rfl 2 (by decide) (hts _ q156) (fun _ h9 => h9) rfl dX1_far_39 ?_
                refine lv_iload hx hb dX1_far_42 (lv_at hl 5 rfl) ?_
                refine il_ld hx hb hK hP 3 0 rfl rfl h24 (by decide) dX1_far_44 ?_
                refine lv_iload_n hx hb dX1_far_45 rfl (lv_at hl 2 rfl) ?_
                refine il_callR (As := [.int (se j), .int (nI v)]) (rest := []) (v := im_has (se j) v) hF hK hP 1 rfl rfl (metX1_has l dC dI h0 q1 q2 q3 q4 d nx us se lv (se j) v) (cwV 2 hts (lw_V q179 q181 qs12 q21 q182) rfl rfl rfl (by decide +kernel) ⟨Nat.le_of_ble_eq_true rfl, Nat.le_of_ble_eq_true rfl⟩) rfl hl.1 (Nat.le_of_ble_eq_true rfl) dX1_far_46 ⟨Nat.le_of_ble_eq_true rfl, Nat.le_of_ble_eq_true rfl⟩ rfl ?_
                refine lv_if_ne (tgt := 64) hx hb dX1_far_49 (by decide) (fun c49 => ?_) (fun c49 => ?_)
                · have c49 : ¬ im_has (se j) v = 0 := c49
                  refine lv_iload_n hx hb dX1_far_64 rfl (lv_at hl 3 rfl) ?_
                  refine lv_istore_n (lv' := [(3, .int y3), (0, .ref h0), (1, .int (nI b)), (2, .int (nI v)), (4, .int (nI r)), (5, .int (nI j))]) hx hb dX1_far_65 rfl hl (by decide) rfl (fun ls hl => ?_)
                  refine lv_iinc (v := nI (j + 1)) (lv' := [(5, .int (nI (j + 1))), (3, .int y3), (0, .ref h0), (1, .int (nI b)), (2, .int (nI v)), (4, .int (nI r))]) hx hb dX1_far_66 hl (k := 5) rfl (nI_1 j) (by decide) rfl (fun ls hl => ?_)
                  refine lv_goto (tgt := 20) hx hb dX1_far_69 (by decide) ?_
                  exact ih20 (j + 1) y3 (by omega) (by omega) (by rw [il_up_s, ← e5, im_faS, if_neg c34, if_neg c49]) ls (lv_sub hl [2, 3, 4, 1, 5, 0] rfl)
                · have c49 : im_has (se j) v = 0 := c49
                  refine lv_iload_n hx hb dX1_far_52 rfl (lv_at hl 3 rfl) ?_
                  refine lv_aload_n hx hb dX1_far_53 rfl (lv_at hl 0 rfl) ?_
                  refine va_get (D := (dC, dI)) (ci := 1) (v := .ref q1) (C := RX1) (T := TX1) (N := 4) hx hb hts in_X1 hown hK hP 0 rfl rfl 0 (by decide) (hts _ q154) (fun _ h9 => h9) rfl dX1_far_54 ?_
                  refine lv_iload hx hb dX1_far_57 (lv_at hl 5 rfl) ?_
                  refine il_ld hx hb hK hP 1 0 rfl rfl h24 (by decide) dX1_far_59 ?_
                  refine lv_ior hx hb dX1_far_60 ?_
                  refine lv_goto (tgt := 65) hx hb dX1_far_61 (by decide) ?_
                  refine lv_istore_n (lv' := [(3, .int (y3 ||| (nx j))), (0, .ref h0), (1, .int (nI b)), (2, .int (nI v)), (4, .int (nI r)), (5, .int (nI j))]) hx hb dX1_far_65 rfl hl (by decide) rfl (fun ls hl => ?_)
                  refine lv_iinc (v := nI (j + 1)) (lv' := [(5, .int (nI (j + 1))), (3, .int (y3 ||| (nx j))), (0, .ref h0), (1, .int (nI b)), (2, .int (nI v)), (4, .int (nI r))]) hx hb dX1_far_66 hl (k := 5) rfl (nI_1 j) (by decide) rfl (fun ls hl => ?_)
                  refine lv_goto (tgt := 20) hx hb dX1_far_69 (by decide) ?_
                  exact ih20 (j + 1) (y3 ||| (nx j)) (by omega) (by omega) (by rw [il_up_s, ← e5, im_faS, if_neg c34, if_pos c49]) ls (lv_sub hl [2, 3, 4, 1, 5, 0] rfl)
        exact L20 13 0 x3 (by decide) (by decide) rfl ls (lv_sub hl [1, 2, 3, 4, 5, 0] rfl)
  exact L10 13 0 (nx b) (by decide) (by decide) rfl ls (lv_sub hl [2, 3, 4, 1, 0] rfl)
abbrev wsX1_reaching : List Cond := ws_ yX1_reaching cX1_reaching 6 (some .int)
abbrev rmX1_reaching : Room := il_rm 2 47
set_option maxHeartbeats 4000000 in
set_option maxRecDepth 100000 in
/-- reaching(b, v) -/
theorem metX1_reaching (l : Launch) (dC : Nat → ClassId) (dI : Nat → Nat → Nat) (h0 q1 q2 q3 q4 : Nat) (d : ClassId) (nx us se lv : il_F) (p0 p1 : Int32) : Met l yX1_reaching wsX1_reaching rmX1_reaching (il_PR dC dI (WY h0 q1 q2 q3 q4 d nx us se lv) d [.ref h0, .int p0, .int p1]) (vp_Si (fun r => r = im_reach nx se p0 p1)) 0 0 (fun _ => False) := by
  refine Met.ofW (cc := cX1_reaching) (maxL := 6) (ret := (some .int)) (by decide) rfl ?_
  intro p e s m args below meth c s₁ B hml hv
  obtain ⟨hargs, hP, hK⟩ := hv
  have hx := B.exec
  have hb := B.bytes
  have hr := B.returns
  have hlocks := B.notSynchronized
  have hts : ∀ w ∈ lw_all, w.before args s = true := fun w h => atoms_spec (ws := wsX1_reaching) B.pre w (List.mem_cons_of_mem _ h)
  have hown : s.vm.findClass RX1 = some m.cls := findClass_of_methodNamed B.named
  have hF : CallFix p m c cX1_reaching 6 s args lw_all RX1 := ⟨hx, hb, hml, hown, hts⟩
  refine il_entry (n := 6) (vs := [.ref h0, .int p0, .int p1]) (Nat.le_of_ble_eq_true rfl) hargs (fun ls hl => ?_)
  have hl : lv_has ls 6 [(0, .ref h0), (1, .int p0), (2, .int p1)] := hl
  generalize hQ : MQ below (vp_Si (fun r => r = im_reach nx se p0 p1)) args s 0 0 (fun _ => False) = Q
  refine lv_aload_n hx hb dX1_reaching_0 rfl (lv_at hl 0 rfl) ?_
  refine lv_iload_n hx hb dX1_reaching_1 rfl (lv_at hl 1 rfl) ?_
  refine il_callR (As := [.int p0]) (rest := []) (v := im_isB p0) hF hK hP 1 rfl rfl (metX1_isBlock l dC dI h0 q1 q2 q3 q4 d nx us se lv p0) (cwV 1 hts (lw_V q171 q173 qs11 q21 q174) rfl rfl rfl (by decide +kernel) ⟨Nat.le_of_ble_eq_true rfl, Nat.le_of_ble_eq_true rfl⟩) rfl hl.1 (Nat.le_of_ble_eq_true rfl) dX1_reaching_2 ⟨Nat.le_of_ble_eq_true rfl, Nat.le_of_ble_eq_true rfl⟩ rfl ?_
  refine lv_if_eq (tgt := 16) hx hb dX1_reaching_5 (by decide) (fun c5 => ?_) (fun c5 => ?_)
  · have c5 : im_isB p0 = 0 := c5
    refine lv_iconst (v := (-1)) hx hb dX1_reaching_16 (by decide) ?_
    exact il_reti hx hb hr hlocks dX1_reaching_17 hQ (by rw [im_reach, if_pos c5])
  · have c5 : ¬ im_isB p0 = 0 := c5
    obtain ⟨b, hb12, rfl⟩ := im_isB_in c5
    refine lv_aload_n hx hb dX1_reaching_8 rfl (lv_at hl 0 rfl) ?_
    refine lv_iload_n hx hb dX1_reaching_9 rfl (lv_at hl 2 rfl) ?_
    refine il_callR (As := [.int p1]) (rest := []) (v := im_isV p1) hF hK hP 1 rfl rfl (metX1_isVariable l dC dI h0 q1 q2 q3 q4 d nx us se lv p1) (cwV 1 hts (lw_V q187 q189 qs13 q21 q190) rfl rfl rfl (by decide +kernel) ⟨Nat.le_of_ble_eq_true rfl, Nat.le_of_ble_eq_true rfl⟩) rfl hl.1 (Nat.le_of_ble_eq_true rfl) dX1_reaching_10 ⟨Nat.le_of_ble_eq_true rfl, Nat.le_of_ble_eq_true rfl⟩ rfl ?_
    refine lv_if_ne (tgt := 18) hx hb dX1_reaching_13 (by decide) (fun c13 => ?_) (fun c13 => ?_)
    · have c13 : ¬ im_isV p1 = 0 := c13
      obtain ⟨v, hv20, rfl⟩ := im_isV_in c13
      refine lv_iconst (v := 0) hx hb dX1_reaching_18 (by decide) ?_
      refine lv_istore_n (lv' := [(3, .int 0), (0, .ref h0), (1, .int (nI b)), (2, .int (nI v))]) hx hb dX1_reaching_19 rfl hl (by decide) rfl (fun ls hl => ?_)
      refine lv_iconst (v := 0) hx hb dX1_reaching_20 (by decide) ?_
      refine lv_istore (lv' := [(4, .int 0), (3, .int 0), (0, .ref h0), (1, .int (nI b)), (2, .int (nI v))]) hx hb dX1_reaching_21 hl (by decide) rfl (fun ls hl => ?_)
      have L23 : ∀ (n23 : Nat) (i : Nat) (x3 : Int32), 13 ≤ i + n23 → i ≤ 12 → x3 = il_up (im_reS nx se b v) i 0 → ∀ ls : Array Slot, lv_has ls 6 [(0, .ref h0), (1, .int (nI b)), (2, .int (nI v)), (3, .int x3), (4, .int (nI i))] → W p l e (headSpec wsX1_reaching rmX1_reaching).room s m args below meth c s.heap [] 0 0 Q (F0 m 23 ls []) := by
        intro n23
        induction n23 with
        | zero =>
          intro i x3 hfu hi e3
          exact absurd hfu (by omega)
        | succ n23 ih23 =>
          intro i x3 hfu hi e3 ls hl
          refine lv_iload hx hb dX1_reaching_23 (lv_at hl 4 rfl) ?_
          refine lv_bipush (v := 12) hx hb dX1_reaching_25 (by decide) ?_
          refine lv_icmp_ge (tgt := 81) hx hb dX1_reaching_27 (by decide) (fun c27 => ?_) (fun c27 => ?_)
          · have c27 : 12 ≤ nI i := c27
            have h27 : 12 ≤ i := il_ge (N := 12) (i := i) c27 (by omega) (by omega)
            refine lv_iload_n hx hb dX1_reaching_81 rfl (lv_at hl 3 rfl) ?_
            exact il_reti hx hb hr hlocks dX1_reaching_82 hQ (by rw [im_reach, if_neg c5, if_neg c13, il_nat_nI (i := b) (by omega), il_nat_nI (i := v) (by omega), im_reF, e3, show i = 12 by omega])
          · have c27 : ¬ 12 ≤ nI i := c27
            have h27 : i < 12 := il_nge (N := 12) (i := i) c27 (by omega)
            refine lv_aload_n hx hb dX1_reaching_30 rfl (lv_at hl 0 rfl) ?_
            refine lv_iload hx hb dX1_reaching_31 (lv_at hl 4 rfl) ?_
            refine lv_iload_n hx hb dX1_reaching_33 rfl (lv_at hl 2 rfl) ?_
            refine il_callR (As := [.int (nI i), .int (nI v)]) (rest := []) (v := im_far nx se i v) hF hK hP 1 rfl rfl (metX1_far l dC dI h0 q1 q2 q3 q4 d nx us se lv i h27 v) (cwV 2 hts (lw_V q244 q246 qs17 q21 q247) rfl rfl rfl (by decide +kernel) ⟨Nat.le_of_ble_eq_true rfl, Nat.le_of_ble_eq_true rfl⟩) rfl hl.1 (Nat.le_of_ble_eq_true rfl) dX1_reaching_34 ⟨Nat.le_of_ble_eq_true rfl, Nat.le_of_ble_eq_true rfl⟩ rfl ?_
            refine lv_istore (lv' := [(5, .int (im_far nx se i v)), (0, .ref h0), (1, .int (nI b)), (2, .int (nI v)), (3, .int x3), (4, .int (nI i))]) hx hb dX1_reaching_37 hl (by decide) rfl (fun ls hl => ?_)
            refine lv_aload_n hx hb dX1_reaching_39 rfl (lv_at hl 1 rfl) ?_
            refine lv_aload_n hx hb dX1_reaching_40 rfl (lv_at hl 1 rfl) ?_
            refine va_get (D := (dC, dI)) (ci := 1) (v := .ref q3) (C := RX1) (T := TX1) (N := 4) hx hb hts in_X1 hown hK hP 0 rfl rfl 2 (by decide) (hts _ q156) (fun _ h9 => h9) rfl dX1_reaching_41 ?_
            refine lv_iload hx hb dX1_reaching_44 (lv_at hl 5 rfl) ?_
            refine il_ld hx hb hK hP 3 0 rfl rfl h27 (by decide) dX1_reaching_46 ?_
            refine lv_iload_n hx hb dX1_reaching_47 rfl (lv_at hl 3 rfl) ?_
            refine il_callR (As := [.int (se i), .int (nI v)]) (rest := []) (v := im_has (se i) v) hF hK hP 1 rfl rfl (metX1_has l dC dI h0 q1 q2 q3 q4 d nx us se lv (se i) v) (cwV 2 hts (lw_V q179 q181 qs12 q21 q182) rfl rfl rfl (by decide +kernel) ⟨Nat.le_of_ble_eq_true rfl, Nat.le_of_ble_eq_true rfl⟩) rfl hl.1 (Nat.le_of_ble_eq_true rfl) dX1_reaching_48 ⟨Nat.le_of_ble_eq_true rfl, Nat.le_of_ble_eq_true rfl⟩ rfl ?_
            refine lv_if_eq (tgt := 73) hx hb dX1_reaching_51 (by decide) (fun c51 => ?_) (fun c51 => ?_)
            · have c51 : im_has (se i) v = 0 := c51
              refine lv_iload_n hx hb dX1_reaching_73 rfl (lv_at hl 4 rfl) ?_
              refine lv_istore_n (lv' := [(3, .int x3), (5, .int (im_far nx se i v)), (0, .ref h0), (1, .int (nI b)), (2, .int (nI v)), (4, .int (nI i))]) hx hb dX1_reaching_74 rfl hl (by decide) rfl (fun ls hl => ?_)
              refine lv_iinc (v := nI (i + 1)) (lv' := [(4, .int (nI (i + 1))), (3, .int x3), (5, .int (im_far nx se i v)), (0, .ref h0), (1, .int (nI b)), (2, .int (nI v))]) hx hb dX1_reaching_75 hl (k := 5) rfl (nI_1 i) (by decide) rfl (fun ls hl => ?_)
              refine lv_goto (tgt := 23) hx hb dX1_reaching_78 (by decide) ?_
              exact ih23 (i + 1) x3 (by omega) (by omega) (by rw [il_up_s, ← e3, im_reS, if_pos c51]) ls (lv_sub hl [3, 4, 5, 1, 0] rfl)
            · have c51 : ¬ im_has (se i) v = 0 := c51
              refine lv_aload_n hx hb dX1_reaching_54 rfl (lv_at hl 1 rfl) ?_
              refine lv_iload hx hb dX1_reaching_55 (lv_at hl 0 rfl) ?_
              refine lv_iload_n hx hb dX1_reaching_57 rfl (lv_at hl 2 rfl) ?_
              refine il_callR (As := [.int (im_far nx se i v), .int (nI b)]) (rest := []) (v := im_has (im_far nx se i v) b) hF hK hP 1 rfl rfl (metX1_has l dC dI h0 q1 q2 q3 q4 d nx us se lv (im_far nx se i v) b) (cwV 2 hts (lw_V q179 q181 qs12 q21 q182) rfl rfl rfl (by decide +kernel) ⟨Nat.le_of_ble_eq_true rfl, Nat.le_of_ble_eq_true rfl⟩) rfl hl.1 (Nat.le_of_ble_eq_true rfl) dX1_reaching_58 ⟨Nat.le_of_ble_eq_true rfl, Nat.le_of_ble_eq_true rfl⟩ rfl ?_
              refine lv_if_eq (tgt := 73) hx hb dX1_reaching_61 (by decide) (fun c61 => ?_) (fun c61 => ?_)
              · have c61 : im_has (im_far nx se i v) b = 0 := c61
                refine lv_iload_n hx hb dX1_reaching_73 rfl (lv_at hl 4 rfl) ?_
                refine lv_istore_n (lv' := [(3, .int x3), (5, .int (im_far nx se i v)), (0, .ref h0), (1, .int (nI b)), (2, .int (nI v)), (4, .int (nI i))]) hx hb dX1_reaching_74 rfl hl (by decide) rfl (fun ls hl => ?_)
                refine lv_iinc (v := nI (i + 1)) (lv' := [(4, .int (nI (i + 1))), (3, .int x3), (5, .int (im_far nx se i v)), (0, .ref h0), (1, .int (nI b)), (2, .int (nI v))]) hx hb dX1_reaching_75 hl (k := 5) rfl (nI_1 i) (by decide) rfl (fun ls hl => ?_)
                refine lv_goto (tgt := 23) hx hb dX1_reaching_78 (by decide) ?_
                exact ih23 (i + 1) x3 (by omega) (by omega) (by rw [il_up_s, ← e3, im_reS, if_neg c51, if_pos c61]) ls (lv_sub hl [3, 4, 5, 1, 0] rfl)
              · have c61 : ¬ im_has (im_far nx se i v) b = 0 := c61
                refine lv_iload_n hx hb dX1_reaching_64 rfl (lv_at hl 4 rfl) ?_
                refine lv_iconst (v := 1) hx hb dX1_reaching_65 (by decide) ?_
                refine lv_iload hx hb dX1_reaching_66 (lv_at hl 5 rfl) ?_
                refine lv_ishl hx hb dX1_reaching_68 ?_
                refine lv_ior hx hb dX1_reaching_69 ?_
                refine lv_goto (tgt := 74) hx hb dX1_reaching_70 (by decide) ?_
                refine lv_istore_n (lv' := [(3, .int (x3 ||| (il_o i))), (5, .int (im_far nx se i v)), (0, .ref h0), (1, .int (nI b)), (2, .int (nI v)), (4, .int (nI i))]) hx hb dX1_reaching_74 rfl hl (by decide) rfl (fun ls hl => ?_)
                refine lv_iinc (v := nI (i + 1)) (lv' := [(4, .int (nI (i + 1))), (3, .int (x3 ||| (il_o i))), (5, .int (im_far nx se i v)), (0, .ref h0), (1, .int (nI b)), (2, .int (nI v))]) hx hb dX1_reaching_75 hl (k := 5) rfl (nI_1 i) (by decide) rfl (fun ls hl => ?_)
                refine lv_goto (tgt := 23) hx hb dX1_reaching_78 (by decide) ?_
                exact ih23 (i + 1) (x3 ||| (il_o i)) (by omega) (by omega) (by rw [il_up_s, ← e3, im_reS, if_neg c51, if_neg c61]) ls (lv_sub hl [3, 4, 5, 1, 0] rfl)
      exact L23 13 0 0 (by decide) (by decide) rfl ls (lv_sub hl [2, 3, 4, 1, 0] rfl)
    · have c13 : im_isV p1 = 0 := c13
      refine lv_iconst (v := (-1)) hx hb dX1_reaching_16 (by decide) ?_
      exact il_reti hx hb hr hlocks dX1_reaching_17 hQ (by rw [im_reach, if_neg c5, if_pos c13])
abbrev wsX1_besides : List Cond := ws_ yX1_besides cX1_besides 4 (some .int)
abbrev rmX1_besides : Room := il_rm 1 22
set_option maxHeartbeats 4000000 in
set_option maxRecDepth 100000 in
/-- besides(v) -/
theorem metX1_besides (l : Launch) (dC : Nat → ClassId) (dI : Nat → Nat → Nat) (h0 q1 q2 q3 q4 : Nat) (d : ClassId) (nx us se lv : il_F) (v : Nat) : Met l yX1_besides wsX1_besides rmX1_besides (il_PR dC dI (WY h0 q1 q2 q3 q4 d nx us se lv) d [.ref h0, .int (nI v)]) (vp_Si (fun r => r = im_beside lv v)) 0 0 (fun _ => False) := by
  refine Met.ofW (cc := cX1_besides) (maxL := 4) (ret := (some .int)) (by decide) rfl ?_
  intro p e s m args below meth c s₁ B hml hv
  obtain ⟨hargs, hP, hK⟩ := hv
  have hx := B.exec
  have hb := B.bytes
  have hr := B.returns
  have hlocks := B.notSynchronized
  have hts : ∀ w ∈ lw_all, w.before args s = true := fun w h => atoms_spec (ws := wsX1_besides) B.pre w (List.mem_cons_of_mem _ h)
  have hown : s.vm.findClass RX1 = some m.cls := findClass_of_methodNamed B.named
  have hF : CallFix p m c cX1_besides 4 s args lw_all RX1 := ⟨hx, hb, hml, hown, hts⟩
  refine il_entry (n := 4) (vs := [.ref h0, .int (nI v)]) (Nat.le_of_ble_eq_true rfl) hargs (fun ls hl => ?_)
  have hl : lv_has ls 4 [(0, .ref h0), (1, .int (nI v))] := hl
  generalize hQ : MQ below (vp_Si (fun r => r = im_beside lv v)) args s 0 0 (fun _ => False) = Q
  refine lv_iconst (v := 0) hx hb dX1_besides_0 (by decide) ?_
  refine lv_istore_n (lv' := [(2, .int 0), (0, .ref h0), (1, .int (nI v))]) hx hb dX1_besides_1 rfl hl (by decide) rfl (fun ls hl => ?_)
  refine lv_iconst (v := 0) hx hb dX1_besides_2 (by decide) ?_
  refine lv_istore_n (lv' := [(3, .int 0), (2, .int 0), (0, .ref h0), (1, .int (nI v))]) hx hb dX1_besides_3 rfl hl (by decide) rfl (fun ls hl => ?_)
  have L4 : ∀ (n4 : Nat) (i : Nat) (x2 : Int32), 13 ≤ i + n4 → i ≤ 12 → x2 = il_up (im_beS lv v) i 0 → ∀ ls : Array Slot, lv_has ls 4 [(0, .ref h0), (1, .int (nI v)), (2, .int x2), (3, .int (nI i))] → W p l e (headSpec wsX1_besides rmX1_besides).room s m args below meth c s.heap [] 0 0 Q (F0 m 4 ls []) := by
    intro n4
    induction n4 with
    | zero =>
      intro i x2 hfu hi e2
      exact absurd hfu (by omega)
    | succ n4 ih4 =>
      intro i x2 hfu hi e2 ls hl
      refine lv_iload_n hx hb dX1_besides_4 rfl (lv_at hl 3 rfl) ?_
      refine lv_bipush (v := 12) hx hb dX1_besides_5 (by decide) ?_
      refine lv_icmp_ge (tgt := 43) hx hb dX1_besides_7 (by decide) (fun c7 => ?_) (fun c7 => ?_)
      · have c7 : 12 ≤ nI i := c7
        have h7 : 12 ≤ i := il_ge (N := 12) (i := i) c7 (by omega) (by omega)
        refine lv_iload_n hx hb dX1_besides_43 rfl (lv_at hl 2 rfl) ?_
        refine lv_iconst (v := 1) hx hb dX1_besides_44 (by decide) ?_
        refine lv_iload_n hx hb dX1_besides_45 rfl (lv_at hl 1 rfl) ?_
        refine lv_ishl hx hb dX1_besides_46 ?_
        refine lv_iconst (v := (-1)) hx hb dX1_besides_47 (by decide) ?_
        refine lv_ixor hx hb dX1_besides_48 ?_
        refine lv_iand hx hb dX1_besides_49 ?_
        exact il_reti hx hb hr hlocks dX1_besides_50 hQ (by rw [e2, im_beside, show i = 12 by omega]; rfl)
      · have c7 : ¬ 12 ≤ nI i := c7
        have h7 : i < 12 := il_nge (N := 12) (i := i) c7 (by omega)
        refine lv_aload_n hx hb dX1_besides_10 rfl (lv_at hl 0 rfl) ?_
        refine lv_aload_n hx hb dX1_besides_11 rfl (lv_at hl 0 rfl) ?_
        refine va_get (D := (dC, dI)) (ci := 1) (v := .ref q4) (C := RX1) (T := TX1) (N := 4) hx hb hts in_X1 hown hK hP 0 rfl rfl 3 (by decide) (hts _ q157) (fun _ h9 => h9) rfl dX1_besides_12 ?_
        refine lv_iload_n hx hb dX1_besides_15 rfl (lv_at hl 3 rfl) ?_
        refine il_ld hx hb hK hP 4 0 rfl rfl h7 (by decide) dX1_besides_16 ?_
        refine lv_iload_n hx hb dX1_besides_17 rfl (lv_at hl 1 rfl) ?_
        refine il_callR (As := [.int (lv i), .int (nI v)]) (rest := []) (v := im_has (lv i) v) hF hK hP 1 rfl rfl (metX1_has l dC dI h0 q1 q2 q3 q4 d nx us se lv (lv i) v) (cwV 2 hts (lw_V q179 q181 qs12 q21 q182) rfl rfl rfl (by decide +kernel) ⟨Nat.le_of_ble_eq_true rfl, Nat.le_of_ble_eq_true rfl⟩) rfl hl.1 (Nat.le_of_ble_eq_true rfl) dX1_besides_18 ⟨Nat.le_of_ble_eq_true rfl, Nat.le_of_ble_eq_true rfl⟩ rfl ?_
        refine lv_if_eq (tgt := 35) hx hb dX1_besides_21 (by decide) (fun c21 => ?_) (fun c21 => ?_)
        · have c21 : im_has (lv i) v = 0 := c21
          refine lv_iload_n hx hb dX1_besides_35 rfl (lv_at hl 2 rfl) ?_
          refine lv_istore_n (lv' := [(2, .int x2), (0, .ref h0), (1, .int (nI v)), (3, .int (nI i))]) hx hb dX1_besides_36 rfl hl (by decide) rfl (fun ls hl => ?_)
          refine lv_iinc (v := nI (i + 1)) (lv' := [(3, .int (nI (i + 1))), (2, .int x2), (0, .ref h0), (1, .int (nI v))]) hx hb dX1_besides_37 hl (k := 3) rfl (nI_1 i) (by decide) rfl (fun ls hl => ?_)
          refine lv_goto (tgt := 4) hx hb dX1_besides_40 (by decide) ?_
          exact ih4 (i + 1) x2 (by omega) (by omega) (by rw [il_up_s, ← e2, im_beS, if_pos c21]) ls (lv_sub hl [2, 3, 1, 0] rfl)
        · have c21 : ¬ im_has (lv i) v = 0 := c21
          refine lv_iload_n hx hb dX1_besides_24 rfl (lv_at hl 2 rfl) ?_
          refine lv_aload_n hx hb dX1_besides_25 rfl (lv_at hl 0 rfl) ?_
          refine va_get (D := (dC, dI)) (ci := 1) (v := .ref q4) (C := RX1) (T := TX1) (N := 4) hx hb hts in_X1 hown hK hP 0 rfl rfl 3 (by decide) (hts _ q157) (fun _ h9 => h9) rfl dX1_besides_26 ?_
          refine lv_iload_n hx hb dX1_besides_29 rfl (lv_at hl 3 rfl) ?_
          refine il_ld hx hb hK hP 4 0 rfl rfl h7 (by decide) dX1_besides_30 ?_
          refine lv_ior hx hb dX1_besides_31 ?_
          refine lv_goto (tgt := 36) hx hb dX1_besides_32 (by decide) ?_
          refine lv_istore_n (lv' := [(2, .int (x2 ||| (lv i))), (0, .ref h0), (1, .int (nI v)), (3, .int (nI i))]) hx hb dX1_besides_36 rfl hl (by decide) rfl (fun ls hl => ?_)
          refine lv_iinc (v := nI (i + 1)) (lv' := [(3, .int (nI (i + 1))), (2, .int (x2 ||| (lv i))), (0, .ref h0), (1, .int (nI v))]) hx hb dX1_besides_37 hl (k := 3) rfl (nI_1 i) (by decide) rfl (fun ls hl => ?_)
          refine lv_goto (tgt := 4) hx hb dX1_besides_40 (by decide) ?_
          exact ih4 (i + 1) (x2 ||| (lv i)) (by omega) (by omega) (by rw [il_up_s, ← e2, im_beS, if_neg c21]) ls (lv_sub hl [2, 3, 1, 0] rfl)
  exact L4 13 0 0 (by decide) (by decide) rfl ls (lv_sub hl [2, 3, 1, 0] rfl)
abbrev wsX1_crowded : List Cond := ws_ yX1_crowded cX1_crowded 4 (some .int)
abbrev rmX1_crowded : Room := il_rm 3 67
set_option maxHeartbeats 4000000 in
set_option maxRecDepth 100000 in
/-- crowded() -/
theorem metX1_crowded (l : Launch) (dC : Nat → ClassId) (dI : Nat → Nat → Nat) (h0 q1 q2 q3 q4 : Nat) (d : ClassId) (sz : Nat) (nx us se lv : il_F) : Met l yX1_crowded wsX1_crowded rmX1_crowded (il_PM dC dI (WY h0 q1 q2 q3 q4 d nx us se lv) d sz [.ref h0]) (va_Qi (fun (r : Int32) (_ : Unit) => r = im_crowd nx us se lv) (il_B dC dI (va_A (WY h0 q1 q2 q3 q4 d nx us se lv) sz) (WY h0 q1 q2 q3 q4 d nx us se (im_spread nx us se lv)) d) (va_A (WY h0 q1 q2 q3 q4 d nx us se lv) sz)) 0 0 (va_A (WY h0 q1 q2 q3 q4 d nx us se lv) sz) := by
  refine Met.ofW (cc := cX1_crowded) (maxL := 4) (ret := (some .int)) (by decide) rfl ?_
  intro p e s m args below meth c s₁ B hml hv
  obtain ⟨hargs, hsz, hP, hK, hD0⟩ := hv
  have hx := B.exec
  have hb := B.bytes
  have hr := B.returns
  have hlocks := B.notSynchronized
  have hts : ∀ w ∈ lw_all, w.before args s = true := fun w h => atoms_spec (ws := wsX1_crowded) B.pre w (List.mem_cons_of_mem _ h)
  have hown : s.vm.findClass RX1 = some m.cls := findClass_of_methodNamed B.named
  have hF : CallFix p m c cX1_crowded 4 s args lw_all RX1 := ⟨hx, hb, hml, hown, hts⟩
  subst hsz
  have hD := hD0.self (sz := s.heap.size)
  generalize hAe : va_A (WY h0 q1 q2 q3 q4 d nx us se lv) s.heap.size = A at hD ⊢
  have hA : ∀ q : Nat, s.heap.size ≤ q → A q := fun q h => by rw [← hAe]; exact Or.inr h
  have hS : va_S A s.heap s.heap [] := va_S.rf
  refine il_entry (n := 4) (vs := [.ref h0]) (Nat.le_of_ble_eq_true rfl) hargs (fun ls hl => ?_)
  have hl : lv_has ls 4 [(0, .ref h0)] := hl
  generalize hQ : MQ below (va_Qi (fun (r : Int32) (_ : Unit) => r = im_crowd nx us se lv) (il_B dC dI A (WY h0 q1 q2 q3 q4 d nx us se (im_spread nx us se lv)) d) A) args s 0 0 A = Q
  have hP : va_P (dC, dI) vwCl (WY h0 q1 q2 q3 q4 d nx us se lv) s.heap := hP
  refine lv_aload_n hx hb dX1_crowded_0 rfl (lv_at hl 0 rfl) ?_
  refine il_callMv (As := []) (rest := []) (ws := WY h0 q1 q2 q3 q4 d nx us se lv) (wr := []) (ws1 := WY h0 q1 q2 q3 q4 d nx us se (im_spread nx us se lv)) hF hK hP hD hS hA [0, 1, 2, 3, 4] [] rfl rfl (by decide) (by decide) (by decide) hP 1 rfl rfl (metX1_spread l dC dI h0 q1 q2 q3 q4 d _ nx us se lv ) (cwV 0 hts (lw_V q216 q218 qs15 q21 q219) rfl rfl rfl (by decide +kernel) ⟨Nat.le_of_ble_eq_true rfl, Nat.le_of_ble_eq_true rfl⟩) rfl hl.1 (Nat.le_of_ble_eq_true rfl) dX1_crowded_1 ⟨Nat.le_of_ble_eq_true rfl, Nat.le_of_ble_eq_true rfl⟩ rfl (fun H locs hP hD hS => ?_)
  have hP : va_P (dC, dI) vwCl (WY h0 q1 q2 q3 q4 d nx us se (im_spread nx us se lv)) H := hP
  have hD : va_D A (WY h0 q1 q2 q3 q4 d nx us se (im_spread nx us se lv)) := hD
  refine lv_iconst (v := 0) hx hb dX1_crowded_4 (by decide) ?_
  refine lv_istore_n (lv' := [(1, .int 0), (0, .ref h0)]) hx hb dX1_crowded_5 rfl hl (by decide) rfl (fun ls hl => ?_)
  refine lv_iconst (v := 0) hx hb dX1_crowded_6 (by decide) ?_
  refine lv_istore_n (lv' := [(2, .int 0), (1, .int 0), (0, .ref h0)]) hx hb dX1_crowded_7 rfl hl (by decide) rfl (fun ls hl => ?_)
  have L8 : ∀ (n8 : Nat) (i : Nat) (x1 : Int32), 21 ≤ i + n8 → i ≤ 20 → x1 = il_up (im_crS (im_spread nx us se lv)) i 0 → ∀ (H : Heap) (locs : List Loc), va_P (dC, dI) vwCl (WY h0 q1 q2 q3 q4 d nx us se (im_spread nx us se lv)) H → va_D A (WY h0 q1 q2 q3 q4 d nx us se (im_spread nx us se lv)) → va_S A s.heap H locs → ∀ ls : Array Slot, lv_has ls 4 [(0, .ref h0), (1, .int x1), (2, .int (nI i))] → W p l e (headSpec wsX1_crowded rmX1_crowded).room s m args below meth c H locs 0 0 Q (F0 m 8 ls []) := by
    intro n8
    induction n8 with
    | zero =>
      intro i x1 hfu hi e1
      exact absurd hfu (by omega)
    | succ n8 ih8 =>
      intro i x1 hfu hi e1 H locs hP hD hS ls hl
      refine lv_iload_n hx hb dX1_crowded_8 rfl (lv_at hl 2 rfl) ?_
      refine lv_bipush (v := 20) hx hb dX1_crowded_9 (by decide) ?_
      refine lv_icmp_ge (tgt := 34) hx hb dX1_crowded_11 (by decide) (fun c11 => ?_) (fun c11 => ?_)
      · have c11 : 20 ≤ nI i := c11
        have h11 : 20 ≤ i := il_ge (N := 20) (i := i) c11 (by omega) (by omega)
        refine lv_iload_n hx hb dX1_crowded_34 rfl (lv_at hl 1 rfl) ?_
        refine lv_iconst (v := 2) hx hb dX1_crowded_35 (by decide) ?_
        refine lv_idiv hx hb dX1_crowded_36 (by decide) ?_
        exact il_retiM hx hb hr hlocks dX1_crowded_37 hQ hK hP hD hS (rfl) (by rw [im_crowd, e1, show i = 20 by omega])
      · have c11 : ¬ 20 ≤ nI i := c11
        have h11 : i < 20 := il_nge (N := 20) (i := i) c11 (by omega)
        refine lv_aload_n hx hb dX1_crowded_14 rfl (lv_at hl 0 rfl) ?_
        refine lv_iload_n hx hb dX1_crowded_15 rfl (lv_at hl 2 rfl) ?_
        refine il_callR (As := [.int (nI i)]) (rest := []) (v := im_beside (im_spread nx us se lv) i) hF hK hP 1 rfl rfl (metX1_besides l dC dI h0 q1 q2 q3 q4 d nx us se (im_spread nx us se lv) i) (cwV 1 hts (lw_V q252 q254 qs18 q21 q255) rfl rfl rfl (by decide +kernel) ⟨Nat.le_of_ble_eq_true rfl, Nat.le_of_ble_eq_true rfl⟩) rfl hl.1 (Nat.le_of_ble_eq_true rfl) dX1_crowded_16 ⟨Nat.le_of_ble_eq_true rfl, Nat.le_of_ble_eq_true rfl⟩ rfl ?_
        refine lv_istore_n (lv' := [(3, .int (im_beside (im_spread nx us se lv) i)), (0, .ref h0), (1, .int x1), (2, .int (nI i))]) hx hb dX1_crowded_19 rfl hl (by decide) rfl (fun ls hl => ?_)
        refine lv_iload_n hx hb dX1_crowded_20 rfl (lv_at hl 2 rfl) ?_
        refine lv_aload_n hx hb dX1_crowded_21 rfl (lv_at hl 1 rfl) ?_
        refine lv_iload_n hx hb dX1_crowded_22 rfl (lv_at hl 0 rfl) ?_
        refine il_callR (As := [.int (im_beside (im_spread nx us se lv) i)]) (rest := [.int x1]) (v := im_size (im_beside (im_spread nx us se lv) i)) hF hK hP 1 rfl rfl (metX1_sizeOf l dC dI h0 q1 q2 q3 q4 d nx us se (im_spread nx us se lv) (im_beside (im_spread nx us se lv) i)) (cwV 1 hts (lw_V q204 q206 qs14 q21 q207) rfl rfl rfl (by decide +kernel) ⟨Nat.le_of_ble_eq_true rfl, Nat.le_of_ble_eq_true rfl⟩) rfl hl.1 (Nat.le_of_ble_eq_true rfl) dX1_crowded_23 ⟨Nat.le_of_ble_eq_true rfl, Nat.le_of_ble_eq_true rfl⟩ rfl ?_
        refine lv_iadd hx hb dX1_crowded_26 ?_
        refine lv_istore_n (lv' := [(1, .int (x1 + (im_size (im_beside (im_spread nx us se lv) i)))), (3, .int (im_beside (im_spread nx us se lv) i)), (0, .ref h0), (2, .int (nI i))]) hx hb dX1_crowded_27 rfl hl (by decide) rfl (fun ls hl => ?_)
        refine lv_iinc (v := nI (i + 1)) (lv' := [(2, .int (nI (i + 1))), (1, .int (x1 + (im_size (im_beside (im_spread nx us se lv) i)))), (3, .int (im_beside (im_spread nx us se lv) i)), (0, .ref h0)]) hx hb dX1_crowded_28 hl (k := 3) rfl (nI_1 i) (by decide) rfl (fun ls hl => ?_)
        refine lv_goto (tgt := 8) hx hb dX1_crowded_31 (by decide) ?_
        exact ih8 (i + 1) (x1 + (im_size (im_beside (im_spread nx us se lv) i))) (by omega) (by omega) (by rw [il_up_s, ← e1, im_crS]) _ _ hP hD hS ls (lv_sub hl [3, 1, 0] rfl)
  exact L8 21 0 0 (by decide) (by decide) rfl _ _ hP hD hS ls (lv_sub hl [2, 1, 0] rfl)
end
section
/-! the constructors -/
def il_z : il_F := fun _ => 0
theorem il_sameA {D : va_G} {cl : List vw_C} {s : State} {d1 d2 : ClassId} (h : va_K D cl [(d1, .int), (d2, .int)] s) : d2 = d1 := by
  have h1 := (h.2 0 _ rfl).2
  have h2 := (h.2 1 _ rfl).2
  exact Option.some.inj (h2.symm.trans h1)
abbrev wsX0_init : List Cond := ws_ yX0_init cX0_init 1 none
abbrev rmX0_init : Room := { frames := 1, cells := 5, slots := 60, locals := 12 }
/-- what the constructor leaves -/
abbrev BX0_init (dC : Nat → ClassId) (dI : Nat → Nat → Nat) (A : Nat → Prop) (h0 : Nat) (_ : Unit) (t : State) : Prop := ∃ (q1 q2 q3 q4 q5 : Nat) (d : ClassId), va_P (dC, dI) vwCl (WX h0 q1 q2 q3 q4 q5 d il_z il_z il_z il_z il_z) t.heap ∧ va_K (dC, dI) vwCl [(d, .int)] t ∧ va_D A (WX h0 q1 q2 q3 q4 q5 d il_z il_z il_z il_z il_z)
set_option maxHeartbeats 800000 in
set_option maxRecDepth 100000 in
/-- the constructor: arrays of zeros -/
theorem metX0_init (l : Launch) (dC : Nat → ClassId) (dI : Nat → Nat → Nat) (h0 : Nat) (sz : Nat) : Met l yX0_init wsX0_init rmX0_init (va_Pc [.ref h0] (fun U => U.heap.size = sz ∧ va_P (dC, dI) vwCl [(h0, .inr (0, [.null, .null, .null, .null, .null]))] U.heap ∧ va_K (dC, dI) vwCl [] U ∧ va_D (fun _ => True) [(h0, .inr (0, [.null, .null, .null, .null, .null]))])) (va_Qv (fun _ : Unit => True) (BX0_init dC dI (va_A [(h0, .inr (0, [.null, .null, .null, .null, .null]))] sz) h0) (va_A [(h0, .inr (0, [.null, .null, .null, .null, .null]))] sz)) 5 60 (va_A [(h0, .inr (0, [.null, .null, .null, .null, .null]))] sz) := by
  refine Met.ofW (cc := cX0_init) (maxL := 1) (ret := none) (by decide) rfl ?_
  intro p e s m args below meth c s₁ B hml hv
  obtain ⟨hargs, hsz, hP, hK, hD0⟩ := hv
  have hx := B.exec
  have hb := B.bytes
  have hr := B.returns
  have hlocks := B.notSynchronized
  have hts : ∀ w ∈ lw_all, w.before args s = true := fun w h => atoms_spec (ws := wsX0_init) B.pre w (List.mem_cons_of_mem _ h)
  have hown : s.vm.findClass RX0 = some m.cls := findClass_of_methodNamed B.named
  have hin : meth.name = "<init>" := (name_of_methodNamed B.named B.method).1
  subst hsz
  have hD := hD0.self (sz := s.heap.size)
  generalize hAe : va_A [(h0, .inr (0, [.null, .null, .null, .null, .null]))] s.heap.size = A at hD ⊢
  have hA : ∀ q : Nat, s.heap.size ≤ q → A q := fun q h => by rw [← hAe]; exact Or.inr h
  have hS : va_S A s.heap s.heap [] := va_S.rf
  refine il_entry (n := 1) (vs := [.ref h0]) (Nat.le_of_ble_eq_true rfl) hargs (fun ls hl => ?_)
  have hl : lv_has ls 1 [(0, .ref h0)] := hl
  refine lv_aload_n hx hb dX0_init_0 rfl (lv_at hl 0 rfl) ?_
  refine W.objInit hx hb hown (hts _ q27) (hts _ q28) (hts _ q29) rfl (by rw [hml]; exact hl.1) rfl dX0_init_1 (Nat.le_of_ble_eq_true rfl) (Nat.le_of_ble_eq_true rfl) ?_
  refine W.eq (g2 := F0 m 4 ls []) rfl ?_
  refine lv_aload_n hx hb dX0_init_4 rfl (lv_at hl 0 rfl) ?_
  refine lv_bipush (v := 12) hx hb dX0_init_5 (by decide) ?_
  refine va_newa (atype := .int) (a0 := (12, .inl il_z)) (N' := 12) hx hb (hts _ q46) rfl hK hP hD hS hA (fun _ => rfl) (by decide) (by decide) (by decide) (Nat.le_of_ble_eq_true rfl) (Nat.le_of_ble_eq_true rfl) dX0_init_7 (fun q1 d H hK hP hD hS => ?_)
  have hK : va_K (dC, dI) vwCl [(d, .int)] s := hK
  have hP : va_P (dC, dI) vwCl [(h0, .inr (0, [.null, .null, .null, .null, .null])), (q1, .inl (d, 12, .inl il_z))] H := hP
  have hD : va_D A [(h0, .inr (0, [.null, .null, .null, .null, .null])), (q1, .inl (d, 12, .inl il_z))] := hD
  refine W.widen (k := 1) (n := 12) (by decide) (by decide) ?_
  refine va_putF (D := (dC, dI)) (ci := 0) (v := .ref q1) (ty := .array .int) (C := RX0) (T := TX0) (N := 5) hx hb hts in_X0 tyX0 tyX0_ok nmX0 hown hK hP hD hS 0 rfl rfl 0 (by decide) (hts _ q30) (fun _ h9 => h9) rfl hin rfl (by decide +kernel) rfl rfl (Nat.le_of_ble_eq_true rfl) dX0_init_9 (fun H locs hP hD hS => ?_)
  have hP : va_P (dC, dI) vwCl [(h0, .inr (0, [.ref q1, .null, .null, .null, .null])), (q1, .inl (d, 12, .inl il_z))] H := hP
  have hD : va_D A [(h0, .inr (0, [.ref q1, .null, .null, .null, .null])), (q1, .inl (d, 12, .inl il_z))] := hD
  refine lv_aload_n hx hb dX0_init_12 rfl (lv_at hl 0 rfl) ?_
  refine lv_bipush (v := 12) hx hb dX0_init_13 (by decide) ?_
  refine va_newa (atype := .int) (a0 := (12, .inl il_z)) (N' := 12) hx hb (hts _ q46) rfl hK hP hD hS hA (fun _ => rfl) (by decide) (by decide) (by decide) (Nat.le_of_ble_eq_true rfl) (Nat.le_of_ble_eq_true rfl) dX0_init_15 (fun q2 d1 H hK hP hD hS => ?_)
  have ed : d = d1 := (il_sameA hK).symm
  subst ed
  have hK : va_K (dC, dI) vwCl [(d, .int)] s := hK.sub [0] rfl
  have hP : va_P (dC, dI) vwCl [(h0, .inr (0, [.ref q1, .null, .null, .null, .null])), (q1, .inl (d, 12, .inl il_z)), (q2, .inl (d, 12, .inl il_z))] H := hP
  have hD : va_D A [(h0, .inr (0, [.ref q1, .null, .null, .null, .null])), (q1, .inl (d, 12, .inl il_z)), (q2, .inl (d, 12, .inl il_z))] := hD
  refine W.widen (k := 2) (n := 24) (by decide) (by decide) ?_
  refine va_putF (D := (dC, dI)) (ci := 0) (v := .ref q2) (ty := .array .int) (C := RX0) (T := TX0) (N := 5) hx hb hts in_X0 tyX0 tyX0_ok nmX0 hown hK hP hD hS 0 rfl rfl 1 (by decide) (hts _ q31) (fun _ h9 => h9) rfl hin rfl (by decide +kernel) rfl rfl (Nat.le_of_ble_eq_true rfl) dX0_init_17 (fun H locs hP hD hS => ?_)
  have hP : va_P (dC, dI) vwCl [(h0, .inr (0, [.ref q1, .ref q2, .null, .null, .null])), (q1, .inl (d, 12, .inl il_z)), (q2, .inl (d, 12, .inl il_z))] H := hP
  have hD : va_D A [(h0, .inr (0, [.ref q1, .ref q2, .null, .null, .null])), (q1, .inl (d, 12, .inl il_z)), (q2, .inl (d, 12, .inl il_z))] := hD
  refine lv_aload_n hx hb dX0_init_20 rfl (lv_at hl 0 rfl) ?_
  refine lv_bipush (v := 12) hx hb dX0_init_21 (by decide) ?_
  refine va_newa (atype := .int) (a0 := (12, .inl il_z)) (N' := 12) hx hb (hts _ q46) rfl hK hP hD hS hA (fun _ => rfl) (by decide) (by decide) (by decide) (Nat.le_of_ble_eq_true rfl) (Nat.le_of_ble_eq_true rfl) dX0_init_23 (fun q3 d2 H hK hP hD hS => ?_)
  have ed : d = d2 := (il_sameA hK).symm
  subst ed
  have hK : va_K (dC, dI) vwCl [(d, .int)] s := hK.sub [0] rfl
  have hP : va_P (dC, dI) vwCl [(h0, .inr (0, [.ref q1, .ref q2, .null, .null, .null])), (q1, .inl (d, 12, .inl il_z)), (q2, .inl (d, 12, .inl il_z)), (q3, .inl (d, 12, .inl il_z))] H := hP
  have hD : va_D A [(h0, .inr (0, [.ref q1, .ref q2, .null, .null, .null])), (q1, .inl (d, 12, .inl il_z)), (q2, .inl (d, 12, .inl il_z)), (q3, .inl (d, 12, .inl il_z))] := hD
  refine W.widen (k := 3) (n := 36) (by decide) (by decide) ?_
  refine va_putF (D := (dC, dI)) (ci := 0) (v := .ref q3) (ty := .array .int) (C := RX0) (T := TX0) (N := 5) hx hb hts in_X0 tyX0 tyX0_ok nmX0 hown hK hP hD hS 0 rfl rfl 2 (by decide) (hts _ q32) (fun _ h9 => h9) rfl hin rfl (by decide +kernel) rfl rfl (Nat.le_of_ble_eq_true rfl) dX0_init_25 (fun H locs hP hD hS => ?_)
  have hP : va_P (dC, dI) vwCl [(h0, .inr (0, [.ref q1, .ref q2, .ref q3, .null, .null])), (q1, .inl (d, 12, .inl il_z)), (q2, .inl (d, 12, .inl il_z)), (q3, .inl (d, 12, .inl il_z))] H := hP
  have hD : va_D A [(h0, .inr (0, [.ref q1, .ref q2, .ref q3, .null, .null])), (q1, .inl (d, 12, .inl il_z)), (q2, .inl (d, 12, .inl il_z)), (q3, .inl (d, 12, .inl il_z))] := hD
  refine lv_aload_n hx hb dX0_init_28 rfl (lv_at hl 0 rfl) ?_
  refine lv_bipush (v := 12) hx hb dX0_init_29 (by decide) ?_
  refine va_newa (atype := .int) (a0 := (12, .inl il_z)) (N' := 12) hx hb (hts _ q46) rfl hK hP hD hS hA (fun _ => rfl) (by decide) (by decide) (by decide) (Nat.le_of_ble_eq_true rfl) (Nat.le_of_ble_eq_true rfl) dX0_init_31 (fun q4 d3 H hK hP hD hS => ?_)
  have ed : d = d3 := (il_sameA hK).symm
  subst ed
  have hK : va_K (dC, dI) vwCl [(d, .int)] s := hK.sub [0] rfl
  have hP : va_P (dC, dI) vwCl [(h0, .inr (0, [.ref q1, .ref q2, .ref q3, .null, .null])), (q1, .inl (d, 12, .inl il_z)), (q2, .inl (d, 12, .inl il_z)), (q3, .inl (d, 12, .inl il_z)), (q4, .inl (d, 12, .inl il_z))] H := hP
  have hD : va_D A [(h0, .inr (0, [.ref q1, .ref q2, .ref q3, .null, .null])), (q1, .inl (d, 12, .inl il_z)), (q2, .inl (d, 12, .inl il_z)), (q3, .inl (d, 12, .inl il_z)), (q4, .inl (d, 12, .inl il_z))] := hD
  refine W.widen (k := 4) (n := 48) (by decide) (by decide) ?_
  refine va_putF (D := (dC, dI)) (ci := 0) (v := .ref q4) (ty := .array .int) (C := RX0) (T := TX0) (N := 5) hx hb hts in_X0 tyX0 tyX0_ok nmX0 hown hK hP hD hS 0 rfl rfl 3 (by decide) (hts _ q33) (fun _ h9 => h9) rfl hin rfl (by decide +kernel) rfl rfl (Nat.le_of_ble_eq_true rfl) dX0_init_33 (fun H locs hP hD hS => ?_)
  have hP : va_P (dC, dI) vwCl [(h0, .inr (0, [.ref q1, .ref q2, .ref q3, .ref q4, .null])), (q1, .inl (d, 12, .inl il_z)), (q2, .inl (d, 12, .inl il_z)), (q3, .inl (d, 12, .inl il_z)), (q4, .inl (d, 12, .inl il_z))] H := hP
  have hD : va_D A [(h0, .inr (0, [.ref q1, .ref q2, .ref q3, .ref q4, .null])), (q1, .inl (d, 12, .inl il_z)), (q2, .inl (d, 12, .inl il_z)), (q3, .inl (d, 12, .inl il_z)), (q4, .inl (d, 12, .inl il_z))] := hD
  refine lv_aload_n hx hb dX0_init_36 rfl (lv_at hl 0 rfl) ?_
  refine lv_bipush (v := 12) hx hb dX0_init_37 (by decide) ?_
  refine va_newa (atype := .int) (a0 := (12, .inl il_z)) (N' := 12) hx hb (hts _ q46) rfl hK hP hD hS hA (fun _ => rfl) (by decide) (by decide) (by decide) (Nat.le_of_ble_eq_true rfl) (Nat.le_of_ble_eq_true rfl) dX0_init_39 (fun q5 d4 H hK hP hD hS => ?_)
  have ed : d = d4 := (il_sameA hK).symm
  subst ed
  have hK : va_K (dC, dI) vwCl [(d, .int)] s := hK.sub [0] rfl
  have hP : va_P (dC, dI) vwCl [(h0, .inr (0, [.ref q1, .ref q2, .ref q3, .ref q4, .null])), (q1, .inl (d, 12, .inl il_z)), (q2, .inl (d, 12, .inl il_z)), (q3, .inl (d, 12, .inl il_z)), (q4, .inl (d, 12, .inl il_z)), (q5, .inl (d, 12, .inl il_z))] H := hP
  have hD : va_D A [(h0, .inr (0, [.ref q1, .ref q2, .ref q3, .ref q4, .null])), (q1, .inl (d, 12, .inl il_z)), (q2, .inl (d, 12, .inl il_z)), (q3, .inl (d, 12, .inl il_z)), (q4, .inl (d, 12, .inl il_z)), (q5, .inl (d, 12, .inl il_z))] := hD
  refine W.widen (k := 5) (n := 60) (by decide) (by decide) ?_
  refine va_putF (D := (dC, dI)) (ci := 0) (v := .ref q5) (ty := .array .int) (C := RX0) (T := TX0) (N := 5) hx hb hts in_X0 tyX0 tyX0_ok nmX0 hown hK hP hD hS 0 rfl rfl 4 (by decide) (hts _ q34) (fun _ h9 => h9) rfl hin rfl (by decide +kernel) rfl rfl (Nat.le_of_ble_eq_true rfl) dX0_init_41 (fun H locs hP hD hS => ?_)
  have hP : va_P (dC, dI) vwCl [(h0, .inr (0, [.ref q1, .ref q2, .ref q3, .ref q4, .ref q5])), (q1, .inl (d, 12, .inl il_z)), (q2, .inl (d, 12, .inl il_z)), (q3, .inl (d, 12, .inl il_z)), (q4, .inl (d, 12, .inl il_z)), (q5, .inl (d, 12, .inl il_z))] H := hP
  have hD : va_D A [(h0, .inr (0, [.ref q1, .ref q2, .ref q3, .ref q4, .ref q5])), (q1, .inl (d, 12, .inl il_z)), (q2, .inl (d, 12, .inl il_z)), (q3, .inl (d, 12, .inl il_z)), (q4, .inl (d, 12, .inl il_z)), (q5, .inl (d, 12, .inl il_z))] := hD
  exact W.vret hx hb hr (fun t ht hW => ⟨⟨(), rfl, trivial, q1, q2, q3, q4, q5, d, by rw [ht]; exact hP, va_K.moved hW.alike hK, hD⟩, hS.F ht⟩) hS.2.2 dX0_init_44
abbrev wsX1_init : List Cond := ws_ yX1_init cX1_init 1 none
abbrev rmX1_init : Room := { frames := 1, cells := 4, slots := 48, locals := 12 }
/-- what the constructor leaves -/
abbrev BX1_init (dC : Nat → ClassId) (dI : Nat → Nat → Nat) (A : Nat → Prop) (h0 : Nat) (_ : Unit) (t : State) : Prop := ∃ (q1 q2 q3 q4 : Nat) (d : ClassId), va_P (dC, dI) vwCl (WY h0 q1 q2 q3 q4 d il_z il_z il_z il_z) t.heap ∧ va_K (dC, dI) vwCl [(d, .int)] t ∧ va_D A (WY h0 q1 q2 q3 q4 d il_z il_z il_z il_z)
set_option maxHeartbeats 800000 in
set_option maxRecDepth 100000 in
/-- the constructor: arrays of zeros -/
theorem metX1_init (l : Launch) (dC : Nat → ClassId) (dI : Nat → Nat → Nat) (h0 : Nat) (sz : Nat) : Met l yX1_init wsX1_init rmX1_init (va_Pc [.ref h0] (fun U => U.heap.size = sz ∧ va_P (dC, dI) vwCl [(h0, .inr (1, [.null, .null, .null, .null]))] U.heap ∧ va_K (dC, dI) vwCl [] U ∧ va_D (fun _ => True) [(h0, .inr (1, [.null, .null, .null, .null]))])) (va_Qv (fun _ : Unit => True) (BX1_init dC dI (va_A [(h0, .inr (1, [.null, .null, .null, .null]))] sz) h0) (va_A [(h0, .inr (1, [.null, .null, .null, .null]))] sz)) 4 48 (va_A [(h0, .inr (1, [.null, .null, .null, .null]))] sz) := by
  refine Met.ofW (cc := cX1_init) (maxL := 1) (ret := none) (by decide) rfl ?_
  intro p e s m args below meth c s₁ B hml hv
  obtain ⟨hargs, hsz, hP, hK, hD0⟩ := hv
  have hx := B.exec
  have hb := B.bytes
  have hr := B.returns
  have hlocks := B.notSynchronized
  have hts : ∀ w ∈ lw_all, w.before args s = true := fun w h => atoms_spec (ws := wsX1_init) B.pre w (List.mem_cons_of_mem _ h)
  have hown : s.vm.findClass RX1 = some m.cls := findClass_of_methodNamed B.named
  have hin : meth.name = "<init>" := (name_of_methodNamed B.named B.method).1
  subst hsz
  have hD := hD0.self (sz := s.heap.size)
  generalize hAe : va_A [(h0, .inr (1, [.null, .null, .null, .null]))] s.heap.size = A at hD ⊢
  have hA : ∀ q : Nat, s.heap.size ≤ q → A q := fun q h => by rw [← hAe]; exact Or.inr h
  have hS : va_S A s.heap s.heap [] := va_S.rf
  refine il_entry (n := 1) (vs := [.ref h0]) (Nat.le_of_ble_eq_true rfl) hargs (fun ls hl => ?_)
  have hl : lv_has ls 1 [(0, .ref h0)] := hl
  refine lv_aload_n hx hb dX1_init_0 rfl (lv_at hl 0 rfl) ?_
  refine W.objInit hx hb hown (hts _ q153) (hts _ q28) (hts _ q29) rfl (by rw [hml]; exact hl.1) rfl dX1_init_1 (Nat.le_of_ble_eq_true rfl) (Nat.le_of_ble_eq_true rfl) ?_
  refine W.eq (g2 := F0 m 4 ls []) rfl ?_
  refine lv_aload_n hx hb dX1_init_4 rfl (lv_at hl 0 rfl) ?_
  refine lv_bipush (v := 12) hx hb dX1_init_5 (by decide) ?_
  refine va_newa (atype := .int) (a0 := (12, .inl il_z)) (N' := 12) hx hb (hts _ q46) rfl hK hP hD hS hA (fun _ => rfl) (by decide) (by decide) (by decide) (Nat.le_of_ble_eq_true rfl) (Nat.le_of_ble_eq_true rfl) dX1_init_7 (fun q1 d H hK hP hD hS => ?_)
  have hK : va_K (dC, dI) vwCl [(d, .int)] s := hK
  have hP : va_P (dC, dI) vwCl [(h0, .inr (1, [.null, .null, .null, .null])), (q1, .inl (d, 12, .inl il_z))] H := hP
  have hD : va_D A [(h0, .inr (1, [.null, .null, .null, .null])), (q1, .inl (d, 12, .inl il_z))] := hD
  refine W.widen (k := 1) (n := 12) (by decide) (by decide) ?_
  refine va_putF (D := (dC, dI)) (ci := 1) (v := .ref q1) (ty := .array .int) (C := RX1) (T := TX1) (N := 4) hx hb hts in_X1 tyX1 tyX1_ok nmX1 hown hK hP hD hS 0 rfl rfl 0 (by decide) (hts _ q154) (fun _ h9 => h9) rfl hin rfl (by decide +kernel) rfl rfl (Nat.le_of_ble_eq_true rfl) dX1_init_9 (fun H locs hP hD hS => ?_)
  have hP : va_P (dC, dI) vwCl [(h0, .inr (1, [.ref q1, .null, .null, .null])), (q1, .inl (d, 12, .inl il_z))] H := hP
  have hD : va_D A [(h0, .inr (1, [.ref q1, .null, .null, .null])), (q1, .inl (d, 12, .inl il_z))] := hD
  refine lv_aload_n hx hb dX1_init_12 rfl (lv_at hl 0 rfl) ?_
  refine lv_bipush (v := 12) hx hb dX1_init_13 (by decide) ?_
  refine va_newa (atype := .int) (a0 := (12, .inl il_z)) (N' := 12) hx hb (hts _ q46) rfl hK hP hD hS hA (fun _ => rfl) (by decide) (by decide) (by decide) (Nat.le_of_ble_eq_true rfl) (Nat.le_of_ble_eq_true rfl) dX1_init_15 (fun q2 d1 H hK hP hD hS => ?_)
  have ed : d = d1 := (il_sameA hK).symm
  subst ed
  have hK : va_K (dC, dI) vwCl [(d, .int)] s := hK.sub [0] rfl
  have hP : va_P (dC, dI) vwCl [(h0, .inr (1, [.ref q1, .null, .null, .null])), (q1, .inl (d, 12, .inl il_z)), (q2, .inl (d, 12, .inl il_z))] H := hP
  have hD : va_D A [(h0, .inr (1, [.ref q1, .null, .null, .null])), (q1, .inl (d, 12, .inl il_z)), (q2, .inl (d, 12, .inl il_z))] := hD
  refine W.widen (k := 2) (n := 24) (by decide) (by decide) ?_
  refine va_putF (D := (dC, dI)) (ci := 1) (v := .ref q2) (ty := .array .int) (C := RX1) (T := TX1) (N := 4) hx hb hts in_X1 tyX1 tyX1_ok nmX1 hown hK hP hD hS 0 rfl rfl 1 (by decide) (hts _ q155) (fun _ h9 => h9) rfl hin rfl (by decide +kernel) rfl rfl (Nat.le_of_ble_eq_true rfl) dX1_init_17 (fun H locs hP hD hS => ?_)
  have hP : va_P (dC, dI) vwCl [(h0, .inr (1, [.ref q1, .ref q2, .null, .null])), (q1, .inl (d, 12, .inl il_z)), (q2, .inl (d, 12, .inl il_z))] H := hP
  have hD : va_D A [(h0, .inr (1, [.ref q1, .ref q2, .null, .null])), (q1, .inl (d, 12, .inl il_z)), (q2, .inl (d, 12, .inl il_z))] := hD
  refine lv_aload_n hx hb dX1_init_20 rfl (lv_at hl 0 rfl) ?_
  refine lv_bipush (v := 12) hx hb dX1_init_21 (by decide) ?_
  refine va_newa (atype := .int) (a0 := (12, .inl il_z)) (N' := 12) hx hb (hts _ q46) rfl hK hP hD hS hA (fun _ => rfl) (by decide) (by decide) (by decide) (Nat.le_of_ble_eq_true rfl) (Nat.le_of_ble_eq_true rfl) dX1_init_23 (fun q3 d2 H hK hP hD hS => ?_)
  have ed : d = d2 := (il_sameA hK).symm
  subst ed
  have hK : va_K (dC, dI) vwCl [(d, .int)] s := hK.sub [0] rfl
  have hP : va_P (dC, dI) vwCl [(h0, .inr (1, [.ref q1, .ref q2, .null, .null])), (q1, .inl (d, 12, .inl il_z)), (q2, .inl (d, 12, .inl il_z)), (q3, .inl (d, 12, .inl il_z))] H := hP
  have hD : va_D A [(h0, .inr (1, [.ref q1, .ref q2, .null, .null])), (q1, .inl (d, 12, .inl il_z)), (q2, .inl (d, 12, .inl il_z)), (q3, .inl (d, 12, .inl il_z))] := hD
  refine W.widen (k := 3) (n := 36) (by decide) (by decide) ?_
  refine va_putF (D := (dC, dI)) (ci := 1) (v := .ref q3) (ty := .array .int) (C := RX1) (T := TX1) (N := 4) hx hb hts in_X1 tyX1 tyX1_ok nmX1 hown hK hP hD hS 0 rfl rfl 2 (by decide) (hts _ q156) (fun _ h9 => h9) rfl hin rfl (by decide +kernel) rfl rfl (Nat.le_of_ble_eq_true rfl) dX1_init_25 (fun H locs hP hD hS => ?_)
  have hP : va_P (dC, dI) vwCl [(h0, .inr (1, [.ref q1, .ref q2, .ref q3, .null])), (q1, .inl (d, 12, .inl il_z)), (q2, .inl (d, 12, .inl il_z)), (q3, .inl (d, 12, .inl il_z))] H := hP
  have hD : va_D A [(h0, .inr (1, [.ref q1, .ref q2, .ref q3, .null])), (q1, .inl (d, 12, .inl il_z)), (q2, .inl (d, 12, .inl il_z)), (q3, .inl (d, 12, .inl il_z))] := hD
  refine lv_aload_n hx hb dX1_init_28 rfl (lv_at hl 0 rfl) ?_
  refine lv_bipush (v := 12) hx hb dX1_init_29 (by decide) ?_
  refine va_newa (atype := .int) (a0 := (12, .inl il_z)) (N' := 12) hx hb (hts _ q46) rfl hK hP hD hS hA (fun _ => rfl) (by decide) (by decide) (by decide) (Nat.le_of_ble_eq_true rfl) (Nat.le_of_ble_eq_true rfl) dX1_init_31 (fun q4 d3 H hK hP hD hS => ?_)
  have ed : d = d3 := (il_sameA hK).symm
  subst ed
  have hK : va_K (dC, dI) vwCl [(d, .int)] s := hK.sub [0] rfl
  have hP : va_P (dC, dI) vwCl [(h0, .inr (1, [.ref q1, .ref q2, .ref q3, .null])), (q1, .inl (d, 12, .inl il_z)), (q2, .inl (d, 12, .inl il_z)), (q3, .inl (d, 12, .inl il_z)), (q4, .inl (d, 12, .inl il_z))] H := hP
  have hD : va_D A [(h0, .inr (1, [.ref q1, .ref q2, .ref q3, .null])), (q1, .inl (d, 12, .inl il_z)), (q2, .inl (d, 12, .inl il_z)), (q3, .inl (d, 12, .inl il_z)), (q4, .inl (d, 12, .inl il_z))] := hD
  refine W.widen (k := 4) (n := 48) (by decide) (by decide) ?_
  refine va_putF (D := (dC, dI)) (ci := 1) (v := .ref q4) (ty := .array .int) (C := RX1) (T := TX1) (N := 4) hx hb hts in_X1 tyX1 tyX1_ok nmX1 hown hK hP hD hS 0 rfl rfl 3 (by decide) (hts _ q157) (fun _ h9 => h9) rfl hin rfl (by decide +kernel) rfl rfl (Nat.le_of_ble_eq_true rfl) dX1_init_33 (fun H locs hP hD hS => ?_)
  have hP : va_P (dC, dI) vwCl [(h0, .inr (1, [.ref q1, .ref q2, .ref q3, .ref q4])), (q1, .inl (d, 12, .inl il_z)), (q2, .inl (d, 12, .inl il_z)), (q3, .inl (d, 12, .inl il_z)), (q4, .inl (d, 12, .inl il_z))] H := hP
  have hD : va_D A [(h0, .inr (1, [.ref q1, .ref q2, .ref q3, .ref q4])), (q1, .inl (d, 12, .inl il_z)), (q2, .inl (d, 12, .inl il_z)), (q3, .inl (d, 12, .inl il_z)), (q4, .inl (d, 12, .inl il_z))] := hD
  exact W.vret hx hb hr (fun t ht hW => ⟨⟨(), rfl, trivial, q1, q2, q3, q4, d, by rw [ht]; exact hP, va_K.moved hW.alike hK, hD⟩, hS.F ht⟩) hS.2.2 dX1_init_36
end
section
/-! Int32 by its bits (pasted: kit/laws/BITS.to-paste, its first family) -/
def bt (x : Int32) (i : Nat) : Bool := x.toBitVec.getLsbD i
theorem b_ext {x y : Int32} (h : ∀ i, i < 32 → bt x i = bt y i) : x = y := Int32.toBitVec_inj.mp (BitVec.eq_of_getLsbD_eq (fun i hi => h i hi))
theorem b_or (x y : Int32) (i : Nat) : bt (x ||| y) i = (bt x i || bt y i) := by unfold bt; rw [Int32.toBitVec_or, BitVec.getLsbD_or]
theorem b_and (x y : Int32) (i : Nat) : bt (x &&& y) i = (bt x i && bt y i) := by unfold bt; rw [Int32.toBitVec_and, BitVec.getLsbD_and]
theorem b_xor (x y : Int32) (i : Nat) : bt (x ^^^ y) i = (bt x i ^^ bt y i) := by unfold bt; rw [Int32.toBitVec_xor, BitVec.getLsbD_xor]
theorem b_big {x : Int32} {i : Nat} (h : 32 ≤ i) : bt x i = false := BitVec.getLsbD_of_ge _ _ h
theorem b_m1 : ∀ i, i < 32 → bt (-1) i = true := by decide +kernel
theorem b_0 (i : Nat) : bt 0 i = false := BitVec.getLsbD_zero
theorem s_l : ∀ n, n < 32 → ((nI n &&& 31).toBitVec.smod 32).toNat = n := by decide +kernel
theorem b_shl (n : Nat) (hn : n < 32) (x : Int32) {i : Nat} (hi : i < 32) : bt (x <<< (nI n &&& 31)) i = (decide (n ≤ i) && bt x (i - n)) := by
  unfold bt
  rw [Int32.toBitVec_shiftLeft]
  show (x.toBitVec <<< ((nI n &&& 31).toBitVec.smod 32).toNat).getLsbD i = _
  rw [s_l n hn, BitVec.getLsbD_shiftLeft]
  rcases Nat.lt_or_ge i n with h | h
  · simp [h, Nat.not_le.mpr h]
  · simp [hi, h, Nat.not_lt.mpr h]
theorem b_sshr (n : Nat) (hn : n < 32) (x : Int32) {i : Nat} (hi : i < 32) : bt (x >>> (nI n &&& 31)) i = if n + i < 32 then bt x (n + i) else bt x 31 := by
  unfold bt
  rw [Int32.toBitVec_shiftRight]
  show (x.toBitVec.sshiftRight ((nI n &&& 31).toBitVec.smod 32).toNat).getLsbD i = _
  rw [s_l n hn, BitVec.getLsbD_sshiftRight, BitVec.msb_eq_getLsbD_last]
  simp [hi]
/-! digits of what the classes compute -/
theorem il_b_eq {x : Int32} {i : Nat} (hi : i < 32) : il_b x i = if bt x i = true then 1 else 0 := by
  apply b_ext
  intro j hj
  unfold il_b
  rw [b_and, b_sshr i hi x hj]
  have h1 : ∀ k, k < 32 → bt 1 k = decide (k = 0) := by decide +kernel
  rw [h1 j hj]
  rcases Nat.eq_zero_or_pos j with h | h
  · subst h
    rw [if_pos (by omega), Nat.add_zero]
    cases bt x i with
    | true => simp [h1 0 (by omega)]
    | false => simp [b_0]
  · rw [decide_eq_false (by omega), Bool.and_false]
    cases bt x i with
    | true => simp [h1 j hj]; omega
    | false => simp [b_0]
theorem il_b1 {x : Int32} {i : Nat} (hi : i < 32) : il_b x i = 1 ↔ bt x i = true := by
  rw [il_b_eq hi]
  cases bt x i <;> simp
theorem il_b0 {x : Int32} {i : Nat} (hi : i < 32) : il_b x i = 0 ↔ bt x i = false := by
  rw [il_b_eq hi]
  cases bt x i <;> simp
theorem im_has_eq {x : Int32} {i : Nat} (hi : i < 32) : im_has x i = if bt x i = true then 1 else 0 := by
  unfold im_has
  by_cases h : bt x i = true
  · rw [if_pos ((il_b1 hi).mpr h), if_pos h]
  · rw [if_neg (fun q => h ((il_b1 hi).mp q)), if_neg h]
theorem im_has0 {x : Int32} {i : Nat} (hi : i < 32) : im_has x i = 0 ↔ bt x i = false := by
  rw [im_has_eq hi]
  cases bt x i <;> simp
theorem b_o {k i : Nat} (hk : k < 32) : bt (il_o k) i = decide (i = k) := by
  rcases Nat.lt_or_ge i 32 with h | h
  · unfold il_o
    rw [b_shl k hk 1 h]
    have h1 : ∀ j, j < 32 → bt 1 j = decide (j = 0) := by decide +kernel
    rw [h1 (i - k) (by omega)]
    by_cases e : i = k
    · subst e; simp
    · rw [decide_eq_false e]
      by_cases g : k ≤ i
      · rw [decide_eq_false (show ¬ i - k = 0 by omega), Bool.and_false]
      · rw [decide_eq_false g, Bool.false_and]
  · rw [b_big h, decide_eq_false (by omega)]
theorem b_n {x : Int32} {i : Nat} (hi : i < 32) : bt (il_n x) i = !bt x i := by
  unfold il_n
  rw [b_xor, b_m1 i hi]
  cases bt x i <;> rfl
/-- x and not y, at every place -/
theorem b_an (x y : Int32) (i : Nat) : bt (x &&& il_n y) i = (bt x i && !bt y i) := by
  rcases Nat.lt_or_ge i 32 with h | h
  · rw [b_and, b_n h]
  · rw [b_big h, b_big h, Bool.false_and]
theorem b_ne0 {x : Int32} (h : ¬ x = 0) : ∃ i, i < 32 ∧ bt x i = true := by
  apply Classical.byContradiction
  intro q
  apply h
  apply b_ext
  intro i hi
  rw [b_0]
  cases e : bt x i with
  | false => rfl
  | true => exact absurd ⟨i, hi, e⟩ q
theorem b_eq0 {x : Int32} (h : x = 0) (i : Nat) : bt x i = false := by rw [h, b_0]
theorem b_ALL (i : Nat) : bt 1048575 i = decide (i < 20) := by
  rcases Nat.lt_or_ge i 32 with h | h
  · exact (by decide +kernel : ∀ i, i < 32 → bt 1048575 i = decide (i < 20)) i h
  · rw [b_big h, decide_eq_false (by omega)]
/-- digits of a number of 0 .. 2^20 - 1 -/
theorem b_small {x : Int32} (h0 : ¬ x < 0) (h1 : x ≤ 1048575) {i : Nat} (hi : 20 ≤ i) : bt x i = false := by
  obtain ⟨j, hj, rfl⟩ := nI_of h0
  have h2 : j ≤ 1048575 := (nI_leI hj (by decide)).mp (show nI j ≤ nI 1048575 from h1)
  unfold bt
  show (BitVec.ofNat 32 j).getLsbD i = false
  rw [BitVec.getLsbD_ofNat]
  have h3 : j.testBit i = false := Nat.testBit_lt_two_pow (Nat.lt_of_lt_of_le (show j < 2 ^ 20 by omega) (Nat.pow_le_pow_right (by decide) hi))
  rw [h3, Bool.and_false]
end
section
/-! what holds between the two objects -/
/-- what must be live at the begin of b by what X says of the blocks behind -/
def il_Fx (to us se : il_F) (X : Nat → Nat → Prop) (b v : Nat) : Prop := bt (us b) v = true ∨ (bt (se b) v = false ∧ ∃ k, k < 12 ∧ bt (to b) k = true ∧ X k v)
/-- X is closed -/
def il_Cl (to us se : il_F) (X : Nat → Nat → Prop) : Prop := ∀ b, b < 12 → ∀ v, il_Fx to us se X b v → X b v
/-- lv holds only what lies in every closed X -/
def il_Sub (to us se lv : il_F) : Prop := ∀ X, il_Cl to us se X → ∀ b, b < 12 → ∀ v, bt (lv b) v = true → X b v
abbrev il_set1 (lv : il_F) : Nat → Nat → Prop := fun b v => bt (lv b) v = true
def il_At (to us se lv : il_F) (b : Nat) : Prop := ∀ v, il_Fx to us se (il_set1 lv) b v → bt (lv b) v = true
def il_Lf (to us se lv : il_F) : Prop := (∀ b, b < 12 → il_At to us se lv b) ∧ il_Sub to us se lv
/-- no digit from N on, in the first twelve -/
def il_wf (N : Nat) (f : il_F) : Prop := ∀ b, b < 12 → ∀ i, N ≤ i → bt (f b) i = false
def il_tp (to fr : il_F) : Prop := ∀ a, a < 12 → ∀ b, b < 12 → bt (fr b) a = bt (to a) b
/-- the class's own state -/
def il_G (us se : il_F) (st : il_S3) : Prop := il_wf 12 st.1 ∧ il_wf 12 st.2.1 ∧ il_tp st.1 st.2.1 ∧ il_wf 20 us ∧ il_wf 20 se ∧ il_Lf st.1 us se st.2.2
def il_eq (f g : il_F) : Prop := ∀ b, b < 12 → g b = f b
def il_Inv (to fr us se lv nx us1 se1 : il_F) : Prop := il_G us se (to, fr, lv) ∧ il_eq to nx ∧ il_eq us us1 ∧ il_eq se se1
/-! sums and counts -/
def il_sum (f : Nat → Nat) : Nat → Nat
  | 0 => 0
  | n + 1 => il_sum f n + f n
theorem sum_s (f : Nat → Nat) (n : Nat) : il_sum f (n + 1) = il_sum f n + f n := rfl
theorem sum_le {f g : Nat → Nat} : ∀ {n : Nat}, (∀ i, i < n → f i ≤ g i) → il_sum f n ≤ il_sum g n := by
  intro n
  induction n with
  | zero => intro _; exact Nat.le_refl _
  | succ n ih =>
    intro h
    have h1 := ih (fun i hi => h i (by omega))
    have h2 := h n (by omega)
    rw [sum_s, sum_s]
    omega
theorem sum_lt {f g : Nat → Nat} : ∀ {n : Nat}, (∀ i, i < n → f i ≤ g i) → ∀ k, k < n → f k < g k → il_sum f n < il_sum g n := by
  intro n
  induction n with
  | zero => intro _ k hk; omega
  | succ n ih =>
    intro h k hk hlt
    rw [sum_s, sum_s]
    have h2 := h n (by omega)
    by_cases e : k = n
    · subst e
      have h1 : il_sum f k ≤ il_sum g k := sum_le (fun i hi => h i (by omega))
      omega
    · have h1 := ih (fun i hi => h i (by omega)) k (by omega) hlt
      omega
theorem sum_bd {f : Nat → Nat} {N : Nat} : ∀ {n : Nat}, (∀ i, i < n → f i ≤ N) → il_sum f n ≤ n * N := by
  intro n
  induction n with
  | zero => intro _; rw [Nat.zero_mul]; exact Nat.le_refl _
  | succ n ih =>
    intro h
    have h1 := ih (fun i hi => h i (by omega))
    have h2 := h n (by omega)
    rw [sum_s, Nat.succ_mul]
    omega
theorem sum_cg {f g : Nat → Nat} : ∀ {n : Nat}, (∀ i, i < n → f i = g i) → il_sum f n = il_sum g n := by
  intro n
  induction n with
  | zero => intro _; rfl
  | succ n ih =>
    intro h
    rw [sum_s, sum_s, ih (fun i hi => h i (by omega)), h n (by omega)]
theorem sum_z {f : Nat → Nat} : ∀ {n : Nat}, (∀ i, i < n → f i = 0) → il_sum f n = 0 := by
  intro n
  induction n with
  | zero => intro _; rfl
  | succ n ih =>
    intro h
    rw [sum_s, ih (fun i hi => h i (by omega)), h n (by omega)]
theorem sum_add (f g : Nat → Nat) (n : Nat) : il_sum (fun i => f i + g i) n = il_sum f n + il_sum g n := by
  induction n with
  | zero => rfl
  | succ n ih => rw [sum_s, sum_s, sum_s, ih]; omega
theorem sum_swap (f : Nat → Nat → Nat) (m n : Nat) : il_sum (fun i => il_sum (fun j => f i j) m) n = il_sum (fun j => il_sum (fun i => f i j) n) m := by
  induction n with
  | zero => exact (sum_z (fun _ _ => rfl)).symm
  | succ n ih =>
    rw [sum_s, ih, ← sum_add]
    exact sum_cg (fun j _ => rfl)
theorem sum_tail {f : Nat → Nat} {N : Nat} (h : ∀ i, N ≤ i → f i = 0) (k : Nat) : il_sum f (N + k) = il_sum f N := by
  induction k with
  | zero => rfl
  | succ k ih => rw [← Nat.add_assoc, sum_s, ih, h _ (by omega)]; rfl
theorem sum_shift (f : Nat → Nat) (a n : Nat) : il_sum (fun w => f (a + w)) n = il_sum (fun u => if a ≤ u then f u else 0) (a + n) := by
  induction n with
  | zero => exact (sum_z (fun i hi => if_neg (by omega))).symm
  | succ n ih => rw [sum_s, ih, ← Nat.add_assoc, sum_s, if_pos (by omega)]
theorem tn_le {x y : Bool} (h : x = true → y = true) : x.toNat ≤ y.toNat := by
  cases x <;> cases y <;> simp_all
theorem tn_1 (x : Bool) : x.toNat ≤ 1 := by cases x <;> decide
theorem tn_lt {x y : Bool} (hx : ¬ x = true) (hy : y = true) : x.toNat < y.toNat := by
  cases x <;> cases y <;> simp_all
/-- how many of the digits below N -/
def il_cnt (N : Nat) (x : Int32) : Nat := il_sum (fun i => (bt x i).toNat) N
/-- all that is live -/
def il_mu (l : il_F) : Nat := il_sum (fun b => il_cnt 20 (l b)) 12
theorem cnt_le {N : Nat} {x y : Int32} (h : ∀ v, v < N → bt x v = true → bt y v = true) : il_cnt N x ≤ il_cnt N y := sum_le (fun i hi => tn_le (h i hi))
theorem cnt_lt {N : Nat} {x y : Int32} (h : ∀ v, v < N → bt x v = true → bt y v = true) {k : Nat} (hk : k < N) (h0 : ¬ bt x k = true) (h1 : bt y k = true) : il_cnt N x < il_cnt N y := sum_lt (fun i hi => tn_le (h i hi)) k hk (tn_lt h0 h1)
theorem cnt_bd (N : Nat) (x : Int32) : il_cnt N x ≤ N := by
  have h : il_cnt N x ≤ N * 1 := sum_bd (fun i _ => tn_1 (bt x i))
  omega
theorem mu_le {l l' : il_F} (h : ∀ b, b < 12 → ∀ v, bt (l b) v = true → bt (l' b) v = true) : il_mu l ≤ il_mu l' := sum_le (fun b hb => cnt_le (fun v _ => h b hb v))
theorem mu_lt {l l' : il_F} (h : ∀ b, b < 12 → ∀ v, bt (l b) v = true → bt (l' b) v = true) {b v : Nat} (hb : b < 12) (hv : v < 20) (h0 : ¬ bt (l b) v = true) (h1 : bt (l' b) v = true) : il_mu l < il_mu l' := sum_lt (fun b hb => cnt_le (fun v _ => h b hb v)) b hb (cnt_lt (fun v _ => h b hb v) hv h0 h1)
theorem mu_bd (l : il_F) : il_mu l ≤ 240 := by
  have h : il_mu l ≤ 12 * 20 := sum_bd (fun b _ => cnt_bd 20 (l b))
  omega
/-! gathering by or -/
theorem b_acc {f : Nat → Int32 → Int32} {P : Nat → Prop} {g : Nat → Int32} {N : Nat} (h1 : ∀ i, i < N → P i → ∀ a, f i a = a ||| g i) (h0 : ∀ i, i < N → ¬ P i → ∀ a, f i a = a) (a0 : Int32) (v : Nat) : ∀ n, n ≤ N → (bt (il_up f n a0) v = true ↔ bt a0 v = true ∨ ∃ k, k < n ∧ P k ∧ bt (g k) v = true) := by
  intro n
  induction n with
  | zero =>
    intro _
    rw [il_up_0]
    constructor
    · intro h; exact Or.inl h
    · intro h
      rcases h with h | ⟨k, hk, -⟩
      · exact h
      · omega
  | succ n ih =>
    intro hn
    have ih := ih (by omega)
    rw [il_up_s]
    by_cases hp : P n
    · rw [h1 n (by omega) hp, b_or, Bool.or_eq_true, ih]
      constructor
      · intro h
        rcases h with (h | ⟨k, hk, h⟩) | h
        · exact Or.inl h
        · exact Or.inr ⟨k, by omega, h⟩
        · exact Or.inr ⟨n, by omega, hp, h⟩
      · intro h
        rcases h with h | ⟨k, hk, h2, h3⟩
        · exact Or.inl (Or.inl h)
        · by_cases e : k = n
          · subst e; exact Or.inr h3
          · exact Or.inl (Or.inr ⟨k, by omega, h2, h3⟩)
    · rw [h0 n (by omega) hp, ih]
      constructor
      · intro h
        rcases h with h | ⟨k, hk, h⟩
        · exact Or.inl h
        · exact Or.inr ⟨k, by omega, h⟩
      · intro h
        rcases h with h | ⟨k, hk, h2, h3⟩
        · exact Or.inl h
        · by_cases e : k = n
          · subst e; exact absurd h2 hp
          · exact Or.inr ⟨k, by omega, h2, h3⟩
theorem up_cg {α : Type} {f g : Nat → α → α} {a : α} : ∀ {n : Nat}, (∀ i, i < n → ∀ x, f i x = g i x) → il_up f n a = il_up g n a := by
  intro n
  induction n with
  | zero => intro _; rfl
  | succ n ih =>
    intro h
    rw [il_up_s, il_up_s, ih (fun i hi => h i (by omega)), h n (by omega)]
theorem b_end {t : Int32} {l : il_F} {v : Nat} : bt (il_end t l) v = true ↔ ∃ k, k < 12 ∧ bt t k = true ∧ bt (l k) v = true := by
  unfold il_end
  rw [b_acc (f := il_endS t l) (N := 12) (P := fun i => bt t i = true) (g := l) (fun i hi h a => if_pos ((il_b1 (by omega)).mpr h)) (fun i hi h a => if_neg (fun q => h ((il_b1 (by omega)).mp q))) 0 v 12 (Nat.le_refl _), b_0]
  constructor
  · intro h
    rcases h with h | h
    · cases h
    · exact h
  · intro h; exact Or.inr h
theorem b_due {to us se l : il_F} {b v : Nat} : bt (il_due to us se l b) v = true ↔ il_Fx to us se (il_set1 l) b v := by
  unfold il_due il_Fx
  rw [b_or, Bool.or_eq_true, b_an, Bool.and_eq_true, b_end, Bool.not_eq_true']
  constructor
  · intro h
    rcases h with h | ⟨h1, h2⟩
    · exact Or.inl h
    · exact Or.inr ⟨h2, h1⟩
  · intro h
    rcases h with h | ⟨h1, h2⟩
    · exact Or.inl h
    · exact Or.inr ⟨h2, h1⟩
theorem fx_mono {to us se : il_F} {X Y : Nat → Nat → Prop} {b v : Nat} (h : ∀ k, k < 12 → X k v → Y k v) (hx : il_Fx to us se X b v) : il_Fx to us se Y b v := by
  rcases hx with hx | ⟨h1, k, hk, h2, h3⟩
  · exact Or.inl hx
  · exact Or.inr ⟨h1, k, hk, h2, h k hk h3⟩
theorem sub_wf {to us se l : il_F} (hus : il_wf 20 us) (h : il_Sub to us se l) {b v : Nat} (hb : b < 12) (hv : bt (l b) v = true) : v < 20 := by
  refine h (fun _ v => v < 20) ?_ b hb v hv
  intro b hb v hx
  rcases hx with hx | ⟨-, k, -, -, h3⟩
  · rcases Nat.lt_or_ge v 20 with q | q
    · exact q
    · rw [hus b hb v q] at hx; cases hx
  · exact h3
end
section
/-! sets of blocks that grow round by round -/
theorem il_sat {α : Type} (f : α → α) (I cl : α → Prop) (μ : α → Nat) (N : Nat) (hI : ∀ a, I a → I (f a)) (hb : ∀ a, I a → μ a ≤ N) (hs : ∀ a, I a → cl a ∨ μ a < μ (f a)) (hk : ∀ a, I a → cl a → cl (f a)) (a : α) (ha : I a) (n : Nat) (hn : N ≤ μ a + n) : cl (il_up (fun _ a => f a) n a) := by
  have key : ∀ n, I (il_up (fun _ a => f a) n a) ∧ (cl (il_up (fun _ a => f a) n a) ∨ μ a + n ≤ μ (il_up (fun _ a => f a) n a)) := by
    intro n
    induction n with
    | zero => exact ⟨ha, Or.inr (Nat.le_refl _)⟩
    | succ n ih =>
      obtain ⟨h1, h2⟩ := ih
      rw [il_up_s]
      refine ⟨hI _ h1, ?_⟩
      rcases h2 with h2 | h2
      · exact Or.inl (hk _ h1 h2)
      · rcases hs _ h1 with h3 | h3
        · exact Or.inl (hk _ h1 h3)
        · exact Or.inr (by omega)
  obtain ⟨h1, h2⟩ := key n
  rcases h2 with h2 | h2
  · exact h2
  · rcases hs _ h1 with h3 | h3
    · exact h3
    · have := hb _ (hI _ h1)
      omega
section CLO
variable {f : Nat → Int32 → Int32} {P : Nat → Prop} {g : il_F}
/-- a is closed under: from a block in it that lets through, to all that g names -/
def il_cl (P : Nat → Prop) (g : il_F) (a : Int32) : Prop := ∀ x, x < 12 → bt a x = true → P x → ∀ y, y < 12 → bt (g x) y = true → bt a y = true
theorem cl_up (h1 : ∀ i, i < 12 → P i → ∀ a, bt a i = true → f i a = a ||| g i) (h0 : ∀ i, i < 12 → ∀ a, ¬ (bt a i = true ∧ P i) → f i a = a) (a : Int32) : ∀ n, n ≤ 12 → (∀ v, bt a v = true → bt (il_up f n a) v = true) ∧ (∀ x, x < n → bt a x = true → P x → ∀ y, bt (g x) y = true → bt (il_up f n a) y = true) ∧ (∀ Z : Nat → Prop, (∀ y, bt a y = true → Z y) → (∀ x, x < 12 → Z x → P x → ∀ y, bt (g x) y = true → Z y) → ∀ y, bt (il_up f n a) y = true → Z y) ∧ (il_cl P g a → ∀ y, y < 12 → bt (il_up f n a) y = true → bt a y = true) := by
  intro n
  induction n with
  | zero => exact fun _ => ⟨fun _ q => q, fun x hx => by omega, fun Z hZ _ y hy => hZ y hy, fun _ _ _ q => q⟩
  | succ n ih =>
    intro hn
    obtain ⟨i1, i2, i3, i4⟩ := ih (by omega)
    rw [il_up_s]
    generalize il_up f n a = s at i1 i2 i3 i4 ⊢
    by_cases hc : bt s n = true ∧ P n
    · rw [h1 n (by omega) hc.2 s hc.1]
      refine ⟨fun v hv => by rw [b_or, i1 v hv, Bool.true_or], fun x hx hax hpx y hy => ?_, fun Z hZ hc2 y hy => ?_, fun hcl y hy hv => ?_⟩
      · by_cases e : x = n
        · subst e; rw [b_or, hy, Bool.or_true]
        · rw [b_or, i2 x (by omega) hax hpx y hy, Bool.true_or]
      · rw [b_or, Bool.or_eq_true] at hy
        rcases hy with hy | hy
        · exact i3 Z hZ hc2 y hy
        · exact hc2 n (by omega) (i3 Z hZ hc2 n hc.1) hc.2 y hy
      · rw [b_or, Bool.or_eq_true] at hv
        rcases hv with hv | hv
        · exact i4 hcl y hy hv
        · exact hcl n (by omega) (i4 hcl n (by omega) hc.1) hc.2 y hy hv
    · rw [h0 n (by omega) s hc]
      refine ⟨i1, fun x hx hax hpx y hy => ?_, i3, i4⟩
      by_cases e : x = n
      · subst e; exact absurd ⟨i1 x hax, hpx⟩ hc
      · exact i2 x (by omega) hax hpx y hy
/-- twelve rounds -/
theorem cl_sat (h1 : ∀ i, i < 12 → P i → ∀ a, bt a i = true → f i a = a ||| g i) (h0 : ∀ i, i < 12 → ∀ a, ¬ (bt a i = true ∧ P i) → f i a = a) (a : Int32) : il_cl P g (il_up (fun _ a => il_up f 12 a) 12 a) := by
  refine il_sat (il_up f 12) (fun _ => True) (il_cl P g) (il_cnt 12) 12 (fun _ _ => trivial) (fun a _ => cnt_bd 12 a) (fun a _ => ?_) (fun a _ hc => ?_) a trivial 12 (by omega)
  · obtain ⟨i1, i2, -, -⟩ := cl_up h1 h0 a 12 (Nat.le_refl _)
    by_cases h : ∀ y, y < 12 → bt (il_up f 12 a) y = true → bt a y = true
    · exact Or.inl (fun x hx hax hpx y hy hg => h y hy (i2 x hx hax hpx y hg))
    · refine Or.inr ?_
      obtain ⟨y, hy⟩ := Classical.not_forall.mp h
      have hy12 : y < 12 := Classical.byContradiction fun q => hy fun z => absurd z q
      have hy1 : bt (il_up f 12 a) y = true := Classical.byContradiction fun q => hy fun _ z => absurd z q
      exact cnt_lt (fun v _ => i1 v) hy12 (fun q => hy fun _ _ => q) hy1
  · obtain ⟨i1, -, -, i4⟩ := cl_up h1 h0 a 12 (Nat.le_refl _)
    exact fun x hx hax hpx y hy hg => i1 y (hc x hx (i4 hc x hx hax) hpx y hy hg)
theorem cl_rounds (h1 : ∀ i, i < 12 → P i → ∀ a, bt a i = true → f i a = a ||| g i) (h0 : ∀ i, i < 12 → ∀ a, ¬ (bt a i = true ∧ P i) → f i a = a) (a : Int32) : ∀ n, (∀ v, bt a v = true → bt (il_up (fun _ a => il_up f 12 a) n a) v = true) ∧ (∀ Z : Nat → Prop, (∀ y, bt a y = true → Z y) → (∀ x, x < 12 → Z x → P x → ∀ y, bt (g x) y = true → Z y) → ∀ y, bt (il_up (fun _ a => il_up f 12 a) n a) y = true → Z y) := by
  intro n
  induction n with
  | zero => exact ⟨fun _ q => q, fun Z hZ _ y hy => hZ y hy⟩
  | succ n ih =>
    rw [il_up_s]
    obtain ⟨i1, -, i3, -⟩ := cl_up h1 h0 (il_up (fun _ a => il_up f 12 a) n a) 12 (Nat.le_refl _)
    exact ⟨fun v hv => i1 v (ih.1 v hv), fun Z hZ hc y hy => i3 Z (ih.2 Z hZ hc) hc y hy⟩
end CLO
/-- the block and all from which it can be come to -/
theorem behind_spec {fr : il_F} {b : Nat} (hb : b < 12) : bt (il_behind fr b) b = true ∧ ∀ x, x < 12 → bt (il_behind fr b) x = true → ∀ y, y < 12 → bt (fr x) y = true → bt (il_behind fr b) y = true := by
  have h1 : ∀ i, i < 12 → True → ∀ a, bt a i = true → il_bhS fr i a = a ||| fr i := fun i hi _ a h => if_pos ((il_b1 (by omega)).mpr h)
  have h0 : ∀ i, i < 12 → ∀ a, ¬ (bt a i = true ∧ True) → il_bhS fr i a = a := fun i hi a h => if_neg (fun q => h ⟨(il_b1 (by omega)).mp q, trivial⟩)
  have hc := cl_sat (P := fun _ => True) (g := fr) h1 h0 (il_o b)
  have hr := cl_rounds (P := fun _ => True) (g := fr) h1 h0 (il_o b) 12
  exact ⟨hr.1 b (by rw [b_o (by omega), decide_eq_true rfl]), fun x hx hax y hy hg => hc x hx hax trivial y hy hg⟩
end
section
/-! spread: from a state that is closed but at b, to the least closed one -/
section SPR
variable {to fr us se : il_F}
/-- one block's turn -/
theorem sp_step (htp : il_tp to fr) (hus : il_wf 20 us) {op nx : Int32} {l : il_F} {i : Nat} (hi : i < 12) (hs : il_Sub to us se l) :
    il_Sub to us se (il_spS to fr us se op i l nx).1 ∧
    (∀ b, b < 12 → ∀ v, bt (l b) v = true → bt ((il_spS to fr us se op i l nx).1 b) v = true) ∧
    ((∀ b, b < 12 → ¬ (bt op b = true ∧ i ≤ b) → ¬ bt nx b = true → il_At to us se l b) → ∀ b, b < 12 → ¬ (bt op b = true ∧ i + 1 ≤ b) → ¬ bt (il_spS to fr us se op i l nx).2 b = true → il_At to us se (il_spS to fr us se op i l nx).1 b) ∧
    ((il_spS to fr us se op i l nx).2 = nx ∨ il_mu l < il_mu (il_spS to fr us se op i l nx).1) := by
  unfold il_spS
  by_cases h : il_b op i = 1
  · rw [if_pos h]
    by_cases g : il_due to us se l i &&& il_n (l i) = 0
    · rw [if_pos g]
      refine ⟨hs, fun _ _ _ q => q, fun hp b hb hn hx => ?_, Or.inl rfl⟩
      by_cases e : b = i
      · subst e
        intro v hv
        have h2 := b_eq0 g v
        rw [b_an, b_due.mpr hv, Bool.true_and] at h2
        cases q : bt (l b) v with
        | true => rfl
        | false => rw [q] at h2; cases h2
      · exact hp b hb (fun q => hn ⟨q.1, by omega⟩) hx
    · rw [if_neg g]
      have hl : ∀ b, b < 12 → ∀ v, bt (l b) v = true → bt (upd l i (l i ||| il_due to us se l i) b) v = true := by
        intro b hb v hv
        by_cases e : b = i
        · subst e
          rw [pk_us, b_or, hv, Bool.true_or]
        · rw [pk_un e]; exact hv
      have hs2 : il_Sub to us se (upd l i (l i ||| il_due to us se l i)) := by
        intro X hX b hb v hv
        by_cases e : b = i
        · subst e
          rw [pk_us, b_or, Bool.or_eq_true] at hv
          rcases hv with hv | hv
          · exact hs X hX b hb v hv
          · exact hX b hb v (fx_mono (fun k hk q => hs X hX k hk v q) (b_due.mp hv))
        · rw [pk_un e] at hv
          exact hs X hX b hb v hv
      refine ⟨hs2, hl, fun hp b hb hn hx => ?_, Or.inr ?_⟩
      · rw [b_or, Bool.or_eq_true] at hx
        have hnf : ¬ bt (fr i) b = true := fun q => hx (Or.inr q)
        rw [htp b hb i hi] at hnf
        intro v hv
        have hv2 : il_Fx to us se (il_set1 l) b v := by
          rcases hv with hv | ⟨h1, k, hk, h2, h3⟩
          · exact Or.inl hv
          · have ek : k ≠ i := fun q => hnf (by rw [← q]; exact h2)
            have h3 : bt (upd l i (l i ||| il_due to us se l i) k) v = true := h3
            rw [pk_un ek] at h3
            exact Or.inr ⟨h1, k, hk, h2, h3⟩
        show bt (upd l i (l i ||| il_due to us se l i) b) v = true
        by_cases e : b = i
        · subst e
          rw [pk_us, b_or, b_due.mpr hv2, Bool.or_true]
        · rw [pk_un e]
          exact hp b hb (fun q => hn ⟨q.1, by omega⟩) (fun q => hx (Or.inl q)) v hv2
      · obtain ⟨v, -, hv⟩ := b_ne0 g
        rw [b_an, Bool.and_eq_true, Bool.not_eq_true'] at hv
        have h1 : bt (upd l i (l i ||| il_due to us se l i) i) v = true := by rw [pk_us, b_or, hv.1, Bool.or_true]
        exact mu_lt hl hi (sub_wf hus hs2 hi h1) (by rw [hv.2]; decide) h1
  · rw [if_neg h]
    refine ⟨hs, fun _ _ _ q => q, fun hp b hb hn hx => ?_, Or.inl rfl⟩
    by_cases e : b = i
    · subst e
      exact hp b hb (fun q => h ((il_b1 (by omega)).mpr q.1)) hx
    · exact hp b hb (fun q => hn ⟨q.1, by omega⟩) hx
/-- a round -/
theorem sp_round (htp : il_tp to fr) (hus : il_wf 20 us) {op : Int32} {l : il_F} (hs : il_Sub to us se l) (hp : ∀ b, b < 12 → ¬ bt op b = true → il_At to us se l b) :
    ∀ n, n ≤ 12 → ∀ st, st = il_up (fun i st => il_spS to fr us se op i st.1 st.2) n (l, 0) → il_Sub to us se st.1 ∧ (∀ b, b < 12 → ∀ v, bt (l b) v = true → bt (st.1 b) v = true) ∧ (∀ b, b < 12 → ¬ (bt op b = true ∧ n ≤ b) → ¬ bt st.2 b = true → il_At to us se st.1 b) ∧ (st.2 = 0 ∨ il_mu l < il_mu st.1) := by
  intro n
  induction n with
  | zero =>
    intro _ st e
    subst e
    exact ⟨hs, fun _ _ _ q => q, fun b hb hn _ => hp b hb (fun q => hn ⟨q, Nat.zero_le _⟩), Or.inl rfl⟩
  | succ n ih =>
    intro hn st e
    obtain ⟨h1, h2, h3, h4⟩ := ih (by omega) _ rfl
    rw [il_up_s] at e
    generalize il_up (fun i st => il_spS to fr us se op i st.1 st.2) n (l, 0) = s0 at h1 h2 h3 h4 e
    subst e
    obtain ⟨g1, g2, g3, g4⟩ := sp_step (op := op) (nx := s0.2) htp hus (show n < 12 by omega) h1
    refine ⟨g1, fun b hb v hv => g2 b hb v (h2 b hb v hv), fun b hb => g3 h3 b hb, ?_⟩
    have hm := mu_le g2
    rcases g4 with g4 | g4
    · rcases h4 with h4 | h4
      · exact Or.inl (g4.trans h4)
      · exact Or.inr (Nat.lt_of_lt_of_le h4 hm)
    · rcases h4 with h4 | h4
      · exact Or.inr (Nat.lt_of_le_of_lt (mu_le h2) g4)
      · exact Or.inr (Nat.lt_trans h4 g4)
theorem sp_while (htp : il_tp to fr) (hus : il_wf 20 us) : ∀ (n : Nat) (l : il_F) (op : Int32), il_Sub to us se l → (∀ b, b < 12 → ¬ bt op b = true → il_At to us se l b) → 241 ≤ il_mu l + n → il_Lf to us se (il_spW to fr us se n (l, op)) := by
  intro n
  induction n with
  | zero =>
    intro l op _ _ h
    have := mu_bd l
    omega
  | succ n ih =>
    intro l op hs hp hm
    by_cases h0 : op = 0
    · rw [il_spW_0 h0]
      exact ⟨fun b hb => hp b hb (by rw [b_eq0 h0]; decide), hs⟩
    · rw [il_spW_s h0]
      obtain ⟨h1, h2, h3, h4⟩ := sp_round htp hus hs hp 12 (Nat.le_refl _) (il_spR to fr us se l op) rfl
      have h3' : ∀ b, b < 12 → ¬ bt (il_spR to fr us se l op).2 b = true → il_At to us se (il_spR to fr us se l op).1 b := fun b hb => h3 b hb (by omega)
      generalize il_spR to fr us se l op = st at h1 h2 h3' h4 ⊢
      obtain ⟨l2, op2⟩ := st
      rcases h4 with h4 | h4
      · rw [il_spW_0 h4]
        have h4 : op2 = 0 := h4
        exact ⟨fun b hb => h3' b hb (by rw [b_eq0 h4]; decide), h1⟩
      · exact ih l2 op2 h1 h3' (by have h4 : il_mu l < il_mu l2 := h4; omega)
theorem spread_spec (htp : il_tp to fr) (hus : il_wf 20 us) {lv : il_F} {b : Nat} (hb : b < 12) (hs : il_Sub to us se lv) (hp : ∀ k, k < 12 → k ≠ b → il_At to us se lv k) : il_Lf to us se (il_spread to fr us se lv b) := by
  refine sp_while htp hus 241 lv (il_o b) hs (fun k hk hn => hp k hk ?_) (by omega)
  intro e
  apply hn
  rw [b_o (by omega), decide_eq_true e]
end SPR
end
section
/-! shrink: what rests on b is taken away and filled again -/
section SHR
variable {to fr us se : il_F} {reg lost : Int32}
theorem sh_clear {lv : il_F} : ∀ n, n ≤ 12 → ∀ b, il_up (il_shC reg lost) n lv b = if b < n ∧ bt reg b = true then lv b &&& il_n lost else lv b := by
  intro n
  induction n with
  | zero => intro _ b; rw [il_up_0, if_neg (by omega)]
  | succ n ih =>
    intro hn b
    have ih := ih (by omega)
    rw [il_up_s]
    generalize il_up (il_shC reg lost) n lv = l at ih ⊢
    unfold il_shC
    by_cases h : il_b reg n = 1
    · rw [if_pos h]
      by_cases e : b = n
      · subst e
        rw [pk_us, ih b, if_neg (by omega), if_pos ⟨by omega, (il_b1 (by omega)).mp h⟩]
      · rw [pk_un e, ih b]
        by_cases g : b < n ∧ bt reg b = true
        · rw [if_pos g, if_pos ⟨by omega, g.2⟩]
        · rw [if_neg g, if_neg (fun q => g ⟨by omega, q.2⟩)]
    · rw [if_neg h, ih b]
      by_cases g : b < n ∧ bt reg b = true
      · rw [if_pos g, if_pos ⟨by omega, g.2⟩]
      · rw [if_neg g, if_neg]
        intro q
        by_cases e : b = n
        · subst e; exact h ((il_b1 (by omega)).mpr q.2)
        · exact g ⟨by omega, q.2⟩
theorem sh_clear_b {lv : il_F} {b v : Nat} (hb : b < 12) : bt (il_up (il_shC reg lost) 12 lv b) v = true ↔ bt (lv b) v = true ∧ ¬ (bt reg b = true ∧ bt lost v = true) := by
  rw [sh_clear 12 (Nat.le_refl _) b]
  by_cases h : bt reg b = true
  · rw [if_pos ⟨hb, h⟩, b_an, Bool.and_eq_true, Bool.not_eq_true']
    cases bt lost v <;> simp [h]
  · rw [if_neg (fun q => h q.2)]
    simp [h]
/-- every block of the region has what is due of the lost -/
def sh_good (to us se : il_F) (reg lost : Int32) (j : Nat) (l : il_F) : Prop := ∀ x, x < j → bt reg x = true → ∀ v, il_Fx to us se (il_set1 l) x v → bt lost v = true → bt (l x) v = true
theorem sh_dn (hus : il_wf 20 us) : ∀ (j : Nat), j ≤ 12 → ∀ (l : il_F) (mo : Int32) (st : il_F × Int32), il_Sub to us se l → st = il_dn (fun i st => il_shS to us se reg lost i st.1 st.2) j (l, mo) →
    il_Sub to us se st.1 ∧ (∀ b, b < 12 → ∀ v, bt (l b) v = true → bt (st.1 b) v = true) ∧ (∀ b, b < 12 → ∀ v, bt (st.1 b) v = true → bt (l b) v = true ∨ (bt reg b = true ∧ bt lost v = true)) ∧ (st.2 = 0 → mo = 0 ∧ st.1 = l ∧ sh_good to us se reg lost j l) ∧ (st.2 = mo ∨ il_mu l < il_mu st.1) := by
  intro j
  induction j with
  | zero =>
    intro _ l mo st hs e
    subst e
    exact ⟨hs, fun _ _ _ q => q, fun _ _ _ q => Or.inl q, fun q => ⟨q, rfl, fun x hx => by omega⟩, Or.inl rfl⟩
  | succ j ih =>
    intro hj l mo st hs e
    rw [il_dn_s] at e
    have e : st = il_dn (fun i st => il_shS to us se reg lost i st.1 st.2) j (il_shS to us se reg lost j l mo) := e
    by_cases h : il_b reg j = 1
    · by_cases g : (il_due to us se l j &&& lost) &&& il_n (l j) = 0
      · have e1 : il_shS to us se reg lost j l mo = (l, mo) := by unfold il_shS; rw [if_pos h, if_pos g]
        rw [e1] at e
        obtain ⟨i1, i2, i3, i4, i5⟩ := ih (by omega) l mo st hs e
        refine ⟨i1, i2, i3, fun q => ?_, i5⟩
        obtain ⟨q1, q2, q3⟩ := i4 q
        refine ⟨q1, q2, fun x hx hr v hv hl => ?_⟩
        by_cases ex : x = j
        · subst ex
          have h2 := b_eq0 g v
          rw [b_an, b_and, b_due.mpr hv, hl, Bool.true_and, Bool.true_and] at h2
          cases q : bt (l x) v with
          | true => rfl
          | false => rw [q] at h2; cases h2
        · exact q3 x (by omega) hr v hv hl
      · have e1 : il_shS to us se reg lost j l mo = (upd l j (l j ||| (il_due to us se l j &&& lost)), 1) := by unfold il_shS; rw [if_pos h, if_neg g]
        rw [e1] at e
        have hl : ∀ b, b < 12 → ∀ v, bt (l b) v = true → bt (upd l j (l j ||| (il_due to us se l j &&& lost)) b) v = true := by
          intro b hb v hv
          by_cases ee : b = j
          · subst ee
            rw [pk_us, b_or, hv, Bool.true_or]
          · rw [pk_un ee]; exact hv
        have hs2 : il_Sub to us se (upd l j (l j ||| (il_due to us se l j &&& lost))) := by
          intro X hX b hb v hv
          by_cases ee : b = j
          · subst ee
            rw [pk_us, b_or, Bool.or_eq_true] at hv
            rcases hv with hv | hv
            · exact hs X hX b hb v hv
            · rw [b_and, Bool.and_eq_true] at hv
              exact hX b hb v (fx_mono (fun k hk q => hs X hX k hk v q) (b_due.mp hv.1))
          · rw [pk_un ee] at hv
            exact hs X hX b hb v hv
        obtain ⟨i1, i2, i3, i4, i5⟩ := ih (by omega) _ 1 st hs2 e
        have hml : il_mu l < il_mu (upd l j (l j ||| (il_due to us se l j &&& lost))) := by
          obtain ⟨v, -, hv⟩ := b_ne0 g
          rw [b_an, Bool.and_eq_true, Bool.not_eq_true'] at hv
          have h1 : bt (upd l j (l j ||| (il_due to us se l j &&& lost)) j) v = true := by rw [pk_us, b_or, hv.1, Bool.or_true]
          exact mu_lt hl (show j < 12 by omega) (sub_wf hus hs2 (by omega) h1) (by rw [hv.2]; decide) h1
        refine ⟨i1, fun b hb v hv => i2 b hb v (hl b hb v hv), fun b hb v hv => ?_, fun q => absurd (i4 q).1 (by decide), Or.inr ?_⟩
        · rcases i3 b hb v hv with q | q
          · by_cases ee : b = j
            · subst ee
              rw [pk_us, b_or, Bool.or_eq_true] at q
              rcases q with q | q
              · exact Or.inl q
              · rw [b_and, Bool.and_eq_true] at q
                exact Or.inr ⟨(il_b1 (by omega)).mp h, q.2⟩
            · rw [pk_un ee] at q
              exact Or.inl q
          · exact Or.inr q
        · exact Nat.lt_of_lt_of_le hml (mu_le i2)
    · have e1 : il_shS to us se reg lost j l mo = (l, mo) := by unfold il_shS; rw [if_neg h]
      rw [e1] at e
      obtain ⟨i1, i2, i3, i4, i5⟩ := ih (by omega) l mo st hs e
      refine ⟨i1, i2, i3, fun q => ?_, i5⟩
      obtain ⟨q1, q2, q3⟩ := i4 q
      refine ⟨q1, q2, fun x hx hr v hv hl => ?_⟩
      by_cases ex : x = j
      · subst ex
        exact absurd ((il_b1 (by omega)).mpr hr) h
      · exact q3 x (by omega) hr v hv hl
theorem sh_while (hus : il_wf 20 us) : ∀ (n : Nat) (l : il_F) (mo : Int32), il_Sub to us se l → (mo = 0 → sh_good to us se reg lost 12 l) → 241 ≤ il_mu l + n → ∀ r, r = il_shW to us se reg lost n (l, mo) →
    il_Sub to us se r ∧ (∀ b, b < 12 → ∀ v, bt (l b) v = true → bt (r b) v = true) ∧ (∀ b, b < 12 → ∀ v, bt (r b) v = true → bt (l b) v = true ∨ (bt reg b = true ∧ bt lost v = true)) ∧ sh_good to us se reg lost 12 r := by
  intro n
  induction n with
  | zero =>
    intro l mo _ _ h
    have := mu_bd l
    omega
  | succ n ih =>
    intro l mo hs hg hm r e
    by_cases h0 : mo = 0
    · rw [il_shW_0 h0] at e
      subst e
      exact ⟨hs, fun _ _ _ q => q, fun _ _ _ q => Or.inl q, hg h0⟩
    · rw [il_shW_s h0] at e
      obtain ⟨h1, h2, h3, h4, h5⟩ := sh_dn (reg := reg) (lost := lost) hus 12 (Nat.le_refl _) l 0 (il_shR to us se reg lost l) hs rfl
      generalize il_shR to us se reg lost l = st at h1 h2 h3 h4 h5 e
      obtain ⟨l2, m2⟩ := st
      by_cases hz : m2 = 0
      · rw [il_shW_0 hz] at e
        subst e
        obtain ⟨-, q2, q3⟩ := h4 hz
        have q2 : r = l := q2
        subst q2
        exact ⟨h1, h2, h3, q3⟩
      · have h5 : il_mu l < il_mu l2 := by
          rcases h5 with q | q
          · exact absurd q hz
          · exact q
        obtain ⟨i1, i2, i3, i4⟩ := ih l2 m2 h1 (fun q => absurd q hz) (by omega) r e
        refine ⟨i1, fun b hb v hv => i2 b hb v (h2 b hb v hv), fun b hb v hv => ?_, i4⟩
        rcases i3 b hb v hv with q | q
        · exact h3 b hb v q
        · exact Or.inr q
/-- shrink, whole. hA: what isn't lost, and what lies outside a region round b, is in every closed set -/
theorem shrink_spec (htp : il_tp to fr) (hus : il_wf 20 us) {lv : il_F} {b : Nat} {sm : Int32} (hb : b < 12) (hcl : ∀ k, k < 12 → k ≠ b → il_At to us se lv k)
    (hA1 : ∀ v, ¬ (bt sm v = true ∧ bt (lv b) v = true) → ∀ X, il_Cl to us se X → ∀ k, k < 12 → bt (lv k) v = true → X k v)
    (hA2 : ∀ G : Nat → Prop, G b → (∀ x, x < 12 → ∀ k, k < 12 → bt (to x) k = true → G k → G x) → ∀ X, il_Cl to us se X → ∀ k, k < 12 → ∀ v, ¬ G k → bt (lv k) v = true → X k v) :
    ∀ r, r = il_shrink to fr us se lv b sm → il_Sub to us se r ∧ (∀ k, k < 12 → k ≠ b → il_At to us se r k) ∧ (∀ v, ¬ (bt sm v = true ∧ bt (lv b) v = true) → ∀ k, k < 12 → (bt (r k) v = true ↔ bt (lv k) v = true)) ∧ (∀ v, bt sm v = true → bt (lv b) v = true → il_Fx to us se (il_set1 r) b v → bt (r b) v = true) := by
  intro r e
  unfold il_shrink at e
  by_cases h0 : sm &&& lv b = 0
  · rw [if_pos h0] at e
    subst e
    have hn : ∀ v, ¬ (bt sm v = true ∧ bt (r b) v = true) := by
      intro v q
      have h2 := b_eq0 h0 v
      rw [b_and, q.1, q.2] at h2
      cases h2
    exact ⟨fun X hX k hk v hv => hA1 v (hn v) X hX k hk hv, hcl, fun _ _ _ _ => Iff.rfl, fun v h1 h2 => absurd ⟨h1, h2⟩ (hn v)⟩
  · rw [if_neg h0] at e
    obtain ⟨hrb, hrc⟩ := behind_spec (fr := fr) hb
    generalize il_behind fr b = reg at e hrb hrc
    generalize hlo : sm &&& lv b = lost at e
    have hl : ∀ v, bt lost v = true ↔ (bt sm v = true ∧ bt (lv b) v = true) := by
      intro v
      rw [← hlo, b_and, Bool.and_eq_true]
    have hpre : ∀ x, x < 12 → ∀ k, k < 12 → bt (to x) k = true → bt reg k = true → bt reg x = true := fun x hx k hk h1 h2 => hrc k hk h2 x hx (by rw [htp x hx k hk]; exact h1)
    have hc := fun (k v : Nat) (hk : k < 12) => sh_clear_b (reg := reg) (lost := lost) (lv := lv) (b := k) (v := v) hk
    generalize il_up (il_shC reg lost) 12 lv = l1 at e hc
    have hs1 : il_Sub to us se l1 := by
      intro X hX k hk v hv
      rw [hc k v hk] at hv
      by_cases hv2 : bt lost v = true
      · have hnr : ¬ bt reg k = true := fun q => hv.2 ⟨q, hv2⟩
        exact hA2 (fun x => bt reg x = true) hrb hpre X hX k hk v hnr hv.1
      · exact hA1 v (fun q => hv2 ((hl v).mpr q)) X hX k hk hv.1
    obtain ⟨w1, w2, w3, w4⟩ := sh_while (reg := reg) (lost := lost) hus 241 l1 1 hs1 (fun q => absurd q (by decide)) (by omega) r e
    have hsame : ∀ k, k < 12 → ∀ v, ¬ (bt reg k = true ∧ bt lost v = true) → (bt (r k) v = true ↔ bt (lv k) v = true) := by
      intro k hk v hn
      constructor
      · intro q
        rcases w3 k hk v q with q | q
        · exact ((hc k v hk).mp q).1
        · exact absurd q hn
      · intro q
        exact w2 k hk v ((hc k v hk).mpr ⟨q, hn⟩)
    have hle : ∀ k, k < 12 → ∀ v, bt lost v = false → (bt (r k) v = true ↔ bt (lv k) v = true) := fun k hk v h => hsame k hk v (fun q => by rw [h] at q; cases q.2)
    refine ⟨w1, fun k hk hkb v hv => ?_, fun v hn k hk => hsame k hk v (fun q => hn ((hl v).mp q.2)), fun v h1 h2 hv => w4 b hb hrb v hv ((hl v).mpr ⟨h1, h2⟩)⟩
    by_cases hr : bt reg k = true
    · by_cases hv2 : bt lost v = true
      · exact w4 k hk hr v hv hv2
      · have hv3 : bt lost v = false := by
          cases q : bt lost v with
          | false => rfl
          | true => exact absurd q hv2
        rw [hle k hk v hv3]
        exact hcl k hk hkb v (fx_mono (fun x hx q => (hle x hx v hv3).mp q) hv)
    · rw [hsame k hk v (fun q => hr q.1)]
      refine hcl k hk hkb v ?_
      rcases hv with hv | ⟨g1, x, hx, g2, g3⟩
      · exact Or.inl hv
      · have hxr : ¬ bt reg x = true := fun q => hr (hpre k hk x hx g2 q)
        exact Or.inr ⟨g1, x, hx, g2, (hsame x hx v (fun q => hxr q.1)).mp g3⟩
end SHR
end
section
/-! arcs and sets change, and what is live stays right -/
section GST
variable {to to' us us' se se' fr lv : il_F} {a b : Nat}
theorem gs_A2 (hf : il_Lf to us se lv) (hne : ∀ k, k < 12 → k ≠ b → to' k = to k ∧ us' k = us k ∧ se' k = se k) : ∀ G : Nat → Prop, G b → (∀ x, x < 12 → ∀ k, k < 12 → bt (to' x) k = true → G k → G x) → ∀ X, il_Cl to' us' se' X → ∀ k, k < 12 → ∀ v, ¬ G k → bt (lv k) v = true → X k v := by
  intro G hGb hG X hX k hk v hn hv
  refine (hf.2 (fun k v => bt (lv k) v = true ∧ (¬ G k → X k v)) ?_ k hk v hv).2 hn
  intro x hx w hw
  refine ⟨hf.1 x hx w (fx_mono (fun _ _ q => q.1) hw), fun hnx => hX x hx w ?_⟩
  have hxb : x ≠ b := fun q => hnx (q ▸ hGb)
  obtain ⟨e1, e2, e3⟩ := hne x hx hxb
  rcases hw with hw | ⟨g1, y, hy, g2, g3⟩
  · exact Or.inl (by rw [e2]; exact hw)
  · exact Or.inr ⟨by rw [e3]; exact g1, y, hy, by rw [e1]; exact g2, g3.2 (fun q => hnx (hG x hx y hy (by rw [e1]; exact g2) q))⟩
theorem gs_A1 (hf : il_Lf to us se lv) (hne : ∀ k, k < 12 → k ≠ b → to' k = to k ∧ us' k = us k ∧ se' k = se k) (v : Nat) (hv : bt (lv b) v = false ∨ ∀ X : Nat → Nat → Prop, il_Fx to us se X b v → il_Fx to' us' se' X b v) : ∀ X, il_Cl to' us' se' X → ∀ k, k < 12 → bt (lv k) v = true → X k v := by
  intro X hX k hk hkv
  refine (hf.2 (fun k w => bt (lv k) w = true ∧ (w = v → X k v)) ?_ k hk v hkv).2 rfl
  intro x hx w hw
  have h1 := hf.1 x hx w (fx_mono (fun _ _ q => q.1) hw)
  refine ⟨h1, fun e => ?_⟩
  subst e
  by_cases hxb : x = b
  · subst hxb
    rcases hv with hv | hv
    · rw [hv] at h1; cases h1
    · exact hX x hx _ (hv X (fx_mono (fun _ _ q => q.2 rfl) hw))
  · obtain ⟨e1, e2, e3⟩ := hne x hx hxb
    refine hX x hx _ ?_
    rcases hw with hw | ⟨g1, y, hy, g2, g3⟩
    · exact Or.inl (by rw [e2]; exact hw)
    · exact Or.inr ⟨by rw [e3]; exact g1, y, hy, by rw [e1]; exact g2, g3.2 rfl⟩
theorem gs_At {k : Nat} (h : il_At to us se lv k) (e : to' k = to k ∧ us' k = us k ∧ se' k = se k) : il_At to' us' se' lv k := by
  intro v hv
  refine h v ?_
  rcases hv with hv | ⟨g1, y, hy, g2, g3⟩
  · exact Or.inl (by rw [← e.2.1]; exact hv)
  · exact Or.inr ⟨by rw [← e.2.2]; exact g1, y, hy, by rw [← e.1]; exact g2, g3⟩
theorem wf_upd {N : Nat} {f : il_F} {x : Int32} (h : il_wf N f) (hx : ∀ i, N ≤ i → bt x i = false) : il_wf N (upd f b x) := by
  intro k hk i hi
  by_cases e : k = b
  · subst e; rw [pk_us]; exact hx i hi
  · rw [pk_un e]; exact h k hk i hi
theorem bf {x : Bool} (h : ¬ x = true) : x = false := by cases x <;> simp_all
/-- an arc goes -/
theorem part_G (ha : a < 12) (hb : b < 12) (h : il_G us se (to, fr, lv)) : il_G us se (il_part us se a b (to, fr, lv)) ∧ ∀ x, (il_part us se a b (to, fr, lv)).1 x = upd to a (to a &&& il_n (il_o b)) x := by
  obtain ⟨w1, w2, tp, w3, w4, lf⟩ := h
  have w1 : il_wf 12 to := w1
  have w2 : il_wf 12 fr := w2
  have tp : il_tp to fr := tp
  have lf : il_Lf to us se lv := lf
  by_cases h : il_b (to a) b = 1
  · rw [il_part_t h]
    refine ⟨?_, fun _ => rfl⟩
    have hne : ∀ k, k < 12 → k ≠ a → upd to a (to a &&& il_n (il_o b)) k = to k ∧ us k = us k ∧ se k = se k := fun k _ hk => ⟨pk_un hk, rfl, rfl⟩
    have tp2 : il_tp (upd to a (to a &&& il_n (il_o b))) (upd fr b (fr b &&& il_n (il_o a))) := by
      intro x hx y hy
      by_cases ex : x = a
      · subst ex
        rw [pk_us, b_an, b_o (by omega)]
        by_cases ey : y = b
        · subst ey
          rw [pk_us, b_an, b_o (by omega), decide_eq_true rfl, decide_eq_true rfl, Bool.not_true, Bool.and_false, Bool.and_false]
        · rw [pk_un ey, tp x hx y hy, decide_eq_false ey, Bool.not_false, Bool.and_true]
      · rw [pk_un ex]
        by_cases ey : y = b
        · subst ey
          rw [pk_us, b_an, b_o (by omega), decide_eq_false ex, Bool.not_false, Bool.and_true, tp x hx y hy]
        · rw [pk_un ey, tp x hx y hy]
    refine ⟨wf_upd w1 (fun i hi => by rw [b_an, w1 a ha i hi, Bool.false_and]), wf_upd w2 (fun i hi => by rw [b_an, w2 b hb i hi, Bool.false_and]), tp2, w3, w4, ?_⟩
    have hlt : ∀ k, k < 12 → ∀ v, bt (lv k) v = true → v < 20 := fun k hk v hv => sub_wf w3 lf.2 hk hv
    obtain ⟨r1, r2, r3, r4⟩ := shrink_spec (sm := 1048575) tp2 w3 ha (fun k hk hka => gs_At (lf.1 k hk) (hne k hk hka))
      (fun v hn => gs_A1 lf hne v (Or.inl (bf fun q => hn ⟨by rw [b_ALL, decide_eq_true (hlt a ha v q)], q⟩))) (gs_A2 lf hne) _ rfl
    refine ⟨fun k hk => ?_, r1⟩
    by_cases e : k = a
    · subst e
      intro v hv
      by_cases q : bt (1048575 : Int32) v = true ∧ bt (lv k) v = true
      · exact r4 v q.1 q.2 hv
      · refine (r3 v q k hk).mpr (lf.1 k hk v ?_)
        rcases hv with hv | ⟨g1, y, hy, g2, g3⟩
        · exact Or.inl hv
        · have g2 : bt (upd to k (to k &&& il_n (il_o b)) k) y = true := g2
          rw [pk_us, b_an, Bool.and_eq_true] at g2
          exact Or.inr ⟨g1, y, hy, g2.1, (r3 v q y hy).mp g3⟩
    · exact r2 k hk e
  · rw [il_part_f h]
    refine ⟨⟨w1, w2, tp, w3, w4, lf⟩, fun x => ?_⟩
    by_cases e : x = a
    · subst e
      rw [pk_us]
      apply b_ext
      intro i hi
      rw [b_an, b_o (by omega)]
      by_cases ei : i = b
      · subst ei
        have h2 : bt (to x) i = false := bf fun q => h ((il_b1 (by omega)).mpr q)
        show bt (to x) i = _
        rw [h2, Bool.false_and]
      · rw [decide_eq_false ei, Bool.not_false, Bool.and_true]
    · rw [pk_un e]
/-- an arc comes -/
theorem join_G (ha : a < 12) (hb : b < 12) (h : il_G us se (to, fr, lv)) : il_G us se (il_join us se a b (to, fr, lv)) ∧ ∀ x, (il_join us se a b (to, fr, lv)).1 x = upd to a (to a ||| il_o b) x := by
  obtain ⟨w1, w2, tp, w3, w4, lf⟩ := h
  have w1 : il_wf 12 to := w1
  have w2 : il_wf 12 fr := w2
  have tp : il_tp to fr := tp
  have lf : il_Lf to us se lv := lf
  by_cases h : il_b (to a) b = 0
  · rw [il_join_t h]
    refine ⟨?_, fun _ => rfl⟩
    have hne : ∀ k, k < 12 → k ≠ a → upd to a (to a ||| il_o b) k = to k ∧ us k = us k ∧ se k = se k := fun k _ hk => ⟨pk_un hk, rfl, rfl⟩
    have tp2 : il_tp (upd to a (to a ||| il_o b)) (upd fr b (fr b ||| il_o a)) := by
      intro x hx y hy
      by_cases ex : x = a
      · subst ex
        rw [pk_us, b_or, b_o (by omega)]
        by_cases ey : y = b
        · subst ey
          rw [pk_us, b_or, b_o (by omega), decide_eq_true rfl, decide_eq_true rfl, Bool.or_true, Bool.or_true]
        · rw [pk_un ey, tp x hx y hy, decide_eq_false ey, Bool.or_false]
      · rw [pk_un ex]
        by_cases ey : y = b
        · subst ey
          rw [pk_us, b_or, b_o (by omega), decide_eq_false ex, Bool.or_false, tp x hx y hy]
        · rw [pk_un ey, tp x hx y hy]
    refine ⟨wf_upd w1 (fun i hi => by rw [b_or, w1 a ha i hi, b_o (by omega), decide_eq_false (by omega), Bool.or_false]), wf_upd w2 (fun i hi => by rw [b_or, w2 b hb i hi, b_o (by omega), decide_eq_false (by omega), Bool.or_false]), tp2, w3, w4, ?_⟩
    refine spread_spec tp2 w3 ha ?_ (fun k hk hka => gs_At (lf.1 k hk) (hne k hk hka))
    intro X hX k hk v hv
    refine lf.2 X (fun x hx w hw => hX x hx w ?_) k hk v hv
    rcases hw with hw | ⟨g1, y, hy, g2, g3⟩
    · exact Or.inl hw
    · refine Or.inr ⟨g1, y, hy, ?_, g3⟩
      by_cases ex : x = a
      · subst ex
        rw [pk_us, b_or, g2, Bool.true_or]
      · rw [pk_un ex]; exact g2
  · rw [il_join_f h]
    refine ⟨⟨w1, w2, tp, w3, w4, lf⟩, fun x => ?_⟩
    by_cases e : x = a
    · subst e
      rw [pk_us]
      apply b_ext
      intro i hi
      rw [b_or, b_o (by omega)]
      by_cases ei : i = b
      · subst ei
        have h2 : bt (to x) i = true := by
          cases q : bt (to x) i with
          | true => rfl
          | false => exact absurd ((il_b0 (by omega)).mpr q) h
        show bt (to x) i = _
        rw [h2, Bool.true_or]
      · rw [decide_eq_false ei, Bool.or_false]
    · rw [pk_un e]
/-- uses and sets of a block change -/
theorem change_G (hb : b < 12) {nu ns : Int32} (hu : ∀ i, 20 ≤ i → bt nu i = false) (hw : ∀ i, 20 ≤ i → bt ns i = false) (h : il_G us se (to, fr, lv)) : il_G (upd us b nu) (upd se b ns) (to, fr, il_change to fr us se lv b nu ns) := by
  obtain ⟨w1, w2, tp, w3, w4, lf⟩ := h
  have w1 : il_wf 12 to := w1
  have w2 : il_wf 12 fr := w2
  have tp : il_tp to fr := tp
  have lf : il_Lf to us se lv := lf
  have hne : ∀ k, k < 12 → k ≠ b → to k = to k ∧ upd us b nu k = us k ∧ upd se b ns k = se k := fun k _ hk => ⟨rfl, pk_un hk, pk_un hk⟩
  have w5 := wf_upd (b := b) w3 hu
  refine ⟨w1, w2, tp, w5, wf_upd w4 hw, ?_⟩
  obtain ⟨r1, r2, -, -⟩ := shrink_spec (sm := (us b &&& il_n nu) ||| (ns &&& il_n (se b))) tp w5 hb (fun k hk hkb => gs_At (lf.1 k hk) (hne k hk hkb))
    (fun v hn => gs_A1 lf hne v (by
      by_cases hl : bt (lv b) v = true
      · right
        have h1 : ¬ bt ((us b &&& il_n nu) ||| (ns &&& il_n (se b))) v = true := fun q => hn ⟨q, hl⟩
        rw [b_or, b_an, b_an] at h1
        intro X hX
        rcases hX with hX | ⟨g1, y, hy, g2, g3⟩
        · left
          rw [pk_us]
          rw [hX] at h1
          cases q : bt nu v with
          | true => rfl
          | false => rw [q] at h1; exact absurd rfl h1
        · right
          refine ⟨?_, y, hy, g2, g3⟩
          rw [pk_us]
          rw [g1] at h1
          cases q : bt ns v with
          | false => rfl
          | true => rw [q] at h1; exact absurd (by rw [Bool.not_false, Bool.and_true, Bool.or_true]) h1
      · exact Or.inl (bf hl))) (gs_A2 lf hne) _ rfl
  exact spread_spec tp w5 hb r1 r2
end GST
end
section
/-! the reference's spread comes to the same -/
theorem hs_if {α : Type} {x : Int32} {i : Nat} (hi : i < 32) (A B : α) : (if im_has x i = 0 then A else B) = if il_b x i = 1 then B else A := by
  by_cases h : bt x i = true
  · rw [if_neg (fun q => by rw [(im_has0 hi).mp q] at h; cases h), if_pos ((il_b1 hi).mpr h)]
  · rw [if_pos ((im_has0 hi).mpr (bf h)), if_neg (fun q => h ((il_b1 hi).mp q))]
section MOD
variable {nx us se : il_F}
theorem b_bh {l : il_F} {b v : Nat} : bt (im_behind nx l b) v = true ↔ ∃ k, k < 12 ∧ bt (nx b) k = true ∧ bt (l k) v = true := by
  have e : im_behind nx l b = il_end (nx b) l := by
    unfold im_behind il_end
    refine up_cg (fun i hi x => ?_)
    unfold im_bhS il_endS
    exact hs_if (by omega) _ _
  rw [e, b_end]
theorem ms_round {l : il_F} : ∀ n, n ≤ 12 → ∀ r, r = il_up (im_spS nx se) n l → (∀ b, ∀ w, bt (l b) w = true → bt (r b) w = true) ∧ (∀ x, x < n → ∀ w, bt (se x) w = false → (∃ k, k < 12 ∧ bt (nx x) k = true ∧ bt (l k) w = true) → bt (r x) w = true) ∧ (∀ X, il_Cl nx us se X → (∀ b, b < 12 → ∀ w, bt (l b) w = true → X b w) → ∀ b, b < 12 → ∀ w, bt (r b) w = true → X b w) ∧ (∀ v, (∀ b, b < 12 → il_Fx nx us se (il_set1 l) b v → bt (l b) v = true) → ∀ b, b < 12 → bt (r b) v = true → bt (l b) v = true) := by
  intro n
  induction n with
  | zero =>
    intro _ r e
    subst e
    exact ⟨fun _ _ q => q, fun x hx => by omega, fun _ _ q => q, fun _ _ _ _ q => q⟩
  | succ n ih =>
    intro hn r e
    obtain ⟨i1, i2, i3, i4⟩ := ih (by omega) _ rfl
    rw [il_up_s] at e
    generalize il_up (im_spS nx se) n l = s at i1 i2 i3 i4 e
    subst e
    unfold im_spS
    have hb : ∀ w, bt (s n ||| (im_behind nx s n &&& il_n (se n))) w = true ↔ bt (s n) w = true ∨ (bt (se n) w = false ∧ ∃ k, k < 12 ∧ bt (nx n) k = true ∧ bt (s k) w = true) := by
      intro w
      rw [b_or, Bool.or_eq_true, b_an, Bool.and_eq_true, b_bh, Bool.not_eq_true']
      constructor
      · intro h
        rcases h with h | h
        · exact Or.inl h
        · exact Or.inr ⟨h.2, h.1⟩
      · intro h
        rcases h with h | h
        · exact Or.inl h
        · exact Or.inr ⟨h.2, h.1⟩
    refine ⟨fun b w hw => ?_, fun x hx w hs hk => ?_, fun X hX hl b hb2 w hw => ?_, fun v hc b hb2 hv => ?_⟩
    · by_cases e : b = n
      · subst e; rw [pk_us, hb w]; exact Or.inl (i1 b w hw)
      · rw [pk_un e]; exact i1 b w hw
    · by_cases e : x = n
      · subst e
        rw [pk_us, hb w]
        obtain ⟨k, h1, h2, h3⟩ := hk
        exact Or.inr ⟨hs, k, h1, h2, i1 k w h3⟩
      · rw [pk_un e]
        exact i2 x (by omega) w hs hk
    · by_cases e : b = n
      · subst e
        rw [pk_us, hb w] at hw
        rcases hw with hw | ⟨h1, k, h2, h3, h4⟩
        · exact i3 X hX hl b hb2 w hw
        · exact hX b hb2 w (Or.inr ⟨h1, k, h2, h3, i3 X hX hl k h2 w h4⟩)
      · rw [pk_un e] at hw
        exact i3 X hX hl b hb2 w hw
    · by_cases e : b = n
      · subst e
        rw [pk_us, hb v] at hv
        rcases hv with hv | ⟨h1, k, h2, h3, h4⟩
        · exact i4 v hc b hb2 hv
        · exact hc b hb2 (Or.inr ⟨h1, k, h2, h3, i4 v hc k h2 h4⟩)
      · rw [pk_un e] at hv
        exact i4 v hc b hb2 hv
theorem ms_copy {lv : il_F} : ∀ n, ∀ b, il_up (im_cpS us) n lv b = if b < n then us b else lv b := by
  intro n
  induction n with
  | zero => intro b; rw [il_up_0, if_neg (by omega)]
  | succ n ih =>
    intro b
    rw [il_up_s]
    show upd (il_up (im_cpS us) n lv) n (us n) b = _
    by_cases e : b = n
    · subst e; rw [pk_us, if_pos (by omega)]
    · rw [pk_un e, ih b]
      by_cases g : b < n
      · rw [if_pos g, if_pos (by omega)]
      · rw [if_neg g, if_neg (by omega)]
theorem ms_Lf {lv : il_F} : il_Lf nx us se (im_spread nx us se lv) := by
  have h0 : ∀ b, b < 12 → il_up (im_cpS us) 12 lv b = us b := fun b hb => by rw [ms_copy, if_pos hb]
  unfold im_spread
  generalize il_up (im_cpS us) 12 lv = l0 at h0
  refine ⟨fun b hb v hv => ?_, ?_⟩
  · have hsat := il_sat (il_up (im_spS nx se) 12) (fun l => ∀ b, b < 12 → bt (us b) v = true → bt (l b) v = true) (fun l => ∀ b, b < 12 → il_Fx nx us se (il_set1 l) b v → bt (l b) v = true) (fun l => il_sum (fun b => (bt (l b) v).toNat) 12) 12 ?_ ?_ ?_ ?_ l0 (fun b hb h => by rw [h0 b hb]; exact h) 12 (by omega)
    · exact hsat b hb hv
    · intro l hl b hb h
      exact (ms_round (us := us) 12 (Nat.le_refl _) _ rfl).1 b v (hl b hb h)
    · intro l _
      have h : il_sum (fun b => (bt (l b) v).toNat) 12 ≤ 12 * 1 := sum_bd (fun b _ => tn_1 _)
      omega
    · intro l hl
      obtain ⟨i1, i2, -, -⟩ := ms_round (nx := nx) (us := us) (se := se) (l := l) 12 (Nat.le_refl _) _ rfl
      by_cases h : ∀ b, b < 12 → bt (il_up (im_spS nx se) 12 l b) v = true → bt (l b) v = true
      · refine Or.inl (fun b hb hx => ?_)
        rcases hx with hx | ⟨g1, g2⟩
        · exact hl b hb hx
        · exact h b hb (i2 b hb v g1 g2)
      · refine Or.inr ?_
        obtain ⟨y, hy⟩ := Classical.not_forall.mp h
        have hy12 : y < 12 := Classical.byContradiction fun q => hy fun z => absurd z q
        have hy1 : bt (il_up (im_spS nx se) 12 l y) v = true := Classical.byContradiction fun q => hy fun _ z => absurd z q
        exact sum_lt (fun b _ => tn_le (i1 b v)) y hy12 (tn_lt (fun q => hy fun _ _ => q) hy1)
    · intro l _ hc
      obtain ⟨i1, -, -, i4⟩ := ms_round (nx := nx) (us := us) (se := se) (l := l) 12 (Nat.le_refl _) _ rfl
      intro b hb hx
      exact i1 b v (hc b hb (fx_mono (fun k hk q => i4 v hc k hk q) hx))
  · intro X hX
    have key : ∀ n, ∀ b, b < 12 → ∀ w, bt (il_up (im_spR nx se) n l0 b) w = true → X b w := by
      intro n
      induction n with
      | zero =>
        intro b hb w hw
        rw [il_up_0, h0 b hb] at hw
        exact hX b hb w (Or.inl hw)
      | succ n ih =>
        intro b hb w hw
        rw [il_up_s] at hw
        exact (ms_round (us := us) 12 (Nat.le_refl _) _ rfl).2.2.1 X hX ih b hb w hw
    exact key 12
end MOD
section UNI
variable {to fr us se lv nx us1 se1 : il_F}
theorem lf_cl {l : il_F} (h : il_Lf to us se l) : il_Cl to us se (il_set1 l) := fun b hb v hv => h.1 b hb v hv
theorem lf_uni {l1 l2 : il_F} (h1 : il_Lf to us se l1) (h2 : il_Lf to us se l2) {b : Nat} (hb : b < 12) : l1 b = l2 b := by
  apply b_ext
  intro v _
  have a1 : bt (l1 b) v = true → bt (l2 b) v = true := h1.2 _ (lf_cl h2) b hb v
  have a2 : bt (l2 b) v = true → bt (l1 b) v = true := h2.2 _ (lf_cl h1) b hb v
  cases q1 : bt (l1 b) v <;> cases q2 : bt (l2 b) v <;> simp_all
theorem fx_cg (ht : il_eq to nx) (hu : il_eq us us1) (hs : il_eq se se1) {X : Nat → Nat → Prop} {b v : Nat} (hb : b < 12) : il_Fx nx us1 se1 X b v ↔ il_Fx to us se X b v := by
  unfold il_Fx
  rw [ht b hb, hu b hb, hs b hb]
theorem lf_cg (ht : il_eq to nx) (hu : il_eq us us1) (hs : il_eq se se1) {l : il_F} (h : il_Lf nx us1 se1 l) : il_Lf to us se l :=
  ⟨fun b hb v hv => h.1 b hb v ((fx_cg ht hu hs hb).mpr hv), fun X hX b hb v hv => h.2 X (fun x hx w hw => hX x hx w ((fx_cg ht hu hs hx).mp hw)) b hb v hv⟩
theorem ms_eq (h : il_Inv to fr us se lv nx us1 se1) (lv1 : il_F) {b : Nat} (hb : b < 12) : im_spread nx us1 se1 lv1 b = lv b :=
  lf_uni (lf_cg h.2.1 h.2.2.1 h.2.2.2 ms_Lf) h.1.2.2.2.2.2 hb
theorem bad_no {x : Int32} (h : ¬ il_bad x = 0) : im_isB x = 0 := Classical.byContradiction fun q => by
  obtain ⟨i, hi, rfl⟩ := im_isB_in q
  exact h (il_bad_nI hi)
theorem badV_no {x : Int32} (h : ¬ il_badV x = 0) : im_isV x = 0 := Classical.byContradiction fun q => by
  obtain ⟨i, hi, rfl⟩ := im_isV_in q
  exact h (il_badV_nI hi)
theorem bh_eq (ht : il_eq to nx) {L : il_F} (hL : ∀ k, k < 12 → L k = lv k) {b : Nat} (hb : b < 12) : im_behind nx L b = il_end (to b) lv := by
  unfold im_behind il_end
  rw [ht b hb]
  refine up_cg (fun i hi x => ?_)
  unfold im_bhS il_endS
  rw [hL i hi]
  exact hs_if (by omega) _ _
theorem size_eq (x : Int32) : im_size x = il_size x := by
  unfold im_size il_size
  refine up_cg (fun i hi a => ?_)
  unfold im_szS il_szS
  rw [hs_if (by omega), il_b_eq (by omega)]
  by_cases h : bt x i = true
  · rw [if_pos h, if_pos rfl]
  · rw [if_neg h, if_neg (by decide)]
    exact (Int32.add_zero a).symm
theorem q_liveIn (h : il_Inv to fr us se lv nx us1 se1) (lv1 : il_F) (p0 : Int32) : il_liveIn lv p0 = im_liveIn nx us1 se1 lv1 p0 := by
  unfold il_liveIn im_liveIn
  by_cases c : il_bad p0 = 0
  · obtain ⟨b, hb, rfl⟩ := il_bad_in c
    rw [if_pos c, if_neg (im_isB_nI hb), il_nat_nI (i := b) (by omega), ms_eq h lv1 hb]
  · rw [if_neg c, if_pos (bad_no c)]
theorem q_liveOut (h : il_Inv to fr us se lv nx us1 se1) (lv1 : il_F) (p0 : Int32) : il_liveOut to lv p0 = im_liveOut nx us1 se1 lv1 p0 := by
  unfold il_liveOut im_liveOut
  by_cases c : il_bad p0 = 0
  · obtain ⟨b, hb, rfl⟩ := il_bad_in c
    rw [if_pos c, if_neg (im_isB_nI hb), il_nat_nI (i := b) (by omega), bh_eq h.2.1 (fun k hk => ms_eq h lv1 hk) hb]
  · rw [if_neg c, if_pos (bad_no c)]
theorem q_liveBlocks (h : il_Inv to fr us se lv nx us1 se1) (lv1 : il_F) (p0 : Int32) : il_liveBlocks lv p0 = im_liveBlocks nx us1 se1 lv1 p0 := by
  unfold il_liveBlocks im_liveBlocks
  by_cases c : il_badV p0 = 0
  · obtain ⟨v, hv, rfl⟩ := il_badV_in c
    rw [if_pos c, if_neg (im_isV_nI hv), il_nat_nI (i := v) (by omega)]
    refine up_cg (fun i hi a => ?_)
    unfold il_lbS im_lbS
    rw [ms_eq h lv1 hi, hs_if (by omega)]
  · rw [if_neg c, if_pos (badV_no c)]
theorem q_idle (h : il_Inv to fr us se lv nx us1 se1) (lv1 : il_F) : il_idle to se lv = im_idle nx us1 se1 lv1 := by
  unfold il_idle im_idle
  refine up_cg (fun i hi a => ?_)
  unfold il_idS im_idS
  rw [size_eq, bh_eq h.2.1 (fun k hk => ms_eq h lv1 hk) hi, h.2.2.2 i hi]
theorem q_press (h : il_Inv to fr us se lv nx us1 se1) (lv1 : il_F) : il_press lv = im_press nx us1 se1 lv1 := by
  unfold il_press im_press
  refine up_cg (fun i hi a => ?_)
  unfold il_prS im_prS
  rw [size_eq, ms_eq h lv1 hi]
end UNI
end
section
/-! reaching: backwards from b, or forwards from each block -/
/-- y can be come to from s by g, through blocks with P -/
def il_Re (g : il_F) (P : Nat → Prop) (s : Int32) (y : Nat) : Prop := ∀ Z : Nat → Prop, (∀ x, x < 12 → bt s x = true → Z x) → (∀ z, z < 12 → Z z → P z → ∀ x, x < 12 → bt (g z) x = true → Z x) → Z y
theorem re_step {g : il_F} {P : Nat → Prop} {s : Int32} {z x : Nat} (hz : z < 12) (h : il_Re g P s z) (hp : P z) (hx : x < 12) (hg : bt (g z) x = true) : il_Re g P s x := fun Z h1 h2 => h2 z hz (h Z h1 h2) hp x hx hg
theorem re_dual {f g : il_F} {P : Nat → Prop} (htp : ∀ x, x < 12 → ∀ y, y < 12 → bt (g y) x = bt (f x) y) {a b : Nat} (ha : a < 12) (hb : b < 12) (h : il_Re f P (f a) b) : il_Re g P (g b) a := by
  refine h (fun y => y < 12 → il_Re g P (g y) a) ?_ ?_ hb
  · intro x hx h1 _ Z k1 _
    exact k1 a ha (by rw [htp a ha x hx]; exact h1)
  · intro z hz hZ hp x hx h1 _ Z k1 k2
    refine hZ hz Z (fun w hw h3 => ?_) k2
    exact k2 z hz (k1 z hz (by rw [htp z hz x hx]; exact h1)) hp w hw h3
section REA
variable {nx fr se : il_F} {v : Nat}
theorem far_spec (hv : v < 32) {a y : Nat} (hy : y < 12) : bt (im_far nx se a v) y = true ↔ il_Re nx (fun z => bt (se z) v = false) (nx a) y := by
  have h1 : ∀ i, i < 12 → bt (se i) v = false → ∀ a, bt a i = true → im_faS nx se v i a = a ||| nx i := by
    intro i hi hp a h
    unfold im_faS
    rw [if_neg (fun q => by rw [(im_has0 (by omega)).mp q] at h; cases h), if_pos ((im_has0 hv).mpr hp)]
  have h0 : ∀ i, i < 12 → ∀ a, ¬ (bt a i = true ∧ bt (se i) v = false) → im_faS nx se v i a = a := by
    intro i hi a h
    unfold im_faS
    by_cases c : im_has a i = 0
    · rw [if_pos c]
    · rw [if_neg c, if_neg]
      intro q
      refine h ⟨?_, (im_has0 hv).mp q⟩
      cases e : bt a i with
      | true => rfl
      | false => exact absurd ((im_has0 (by omega)).mpr e) c
  have hc := cl_sat (P := fun z => bt (se z) v = false) (g := nx) h1 h0 (nx a)
  have hr := cl_rounds (P := fun z => bt (se z) v = false) (g := nx) h1 h0 (nx a) 12
  constructor
  · intro h Z k1 k2
    exact hr.2 (fun y => y < 12 → Z y) (fun y h2 h3 => k1 y h3 h2) (fun x hx h2 hp y h3 h4 => k2 x hx (h2 hx) hp y h4 h3) y h hy
  · intro h
    exact h (fun y => bt (im_far nx se a v) y = true) (fun x _ h2 => hr.1 x h2) (fun z hz h2 hp x hx h3 => hc z hz h2 hp x hx h3)
theorem b_rcN (hv : v < 32) {op : Int32} {x : Nat} : bt (il_rcN fr se v op) x = true ↔ ∃ k, k < 12 ∧ (bt op k = true ∧ bt (se k) v = false) ∧ bt (fr k) x = true := by
  unfold il_rcN
  rw [b_acc (f := il_rcS fr se v op) (N := 12) (P := fun i => bt op i = true ∧ bt (se i) v = false) (g := fr) ?_ ?_ 0 x 12 (Nat.le_refl _), b_0]
  · constructor
    · intro h
      rcases h with h | h
      · cases h
      · exact h
    · intro h; exact Or.inr h
  · intro i hi h a
    unfold il_rcS
    rw [if_pos ((il_b1 (by omega)).mpr h.1), if_pos ((il_b0 hv).mpr h.2)]
  · intro i hi h a
    unfold il_rcS
    by_cases c : il_b op i = 1
    · rw [if_pos c, if_neg (fun q => h ⟨(il_b1 (by omega)).mp c, (il_b0 hv).mp q⟩)]
    · rw [if_neg c]
theorem rc_while (hv : v < 32) (hwf : il_wf 12 fr) (s0 : Int32) : ∀ (n : Nat) (seen op : Int32), (∀ x, bt seen x = true → ¬ bt op x = true) → (∀ i, 12 ≤ i → bt op i = false) → (∀ x, x < 12 → bt seen x = true ∨ bt op x = true → il_Re fr (fun z => bt (se z) v = false) s0 x) → (∀ x, x < 12 → bt s0 x = true → bt seen x = true ∨ bt op x = true) → (∀ z, z < 12 → bt seen z = true → bt (se z) v = false → ∀ x, x < 12 → bt (fr z) x = true → bt seen x = true ∨ bt op x = true) → 13 ≤ il_cnt 12 seen + n → ∀ x, x < 12 → (bt (il_rcW fr se v n seen op) x = true ↔ il_Re fr (fun z => bt (se z) v = false) s0 x) := by
  intro n
  induction n with
  | zero =>
    intro seen op _ _ _ _ _ h
    have := cnt_bd 12 seen
    omega
  | succ n ih =>
    intro seen op h1 h2 h3 h4 h5 hm x hx
    by_cases h0 : op = 0
    · rw [il_rcW_0 h0]
      have hz : ∀ y, ¬ bt op y = true := fun y => by rw [b_eq0 h0]; decide
      constructor
      · intro h; exact h3 x hx (Or.inl h)
      · intro h
        refine h (fun y => bt seen y = true) (fun y hy h6 => ?_) (fun z hz2 h6 hp y hy h7 => ?_)
        · rcases h4 y hy h6 with q | q
          · exact q
          · exact absurd q (hz y)
        · rcases h5 z hz2 h6 hp y hy h7 with q | q
          · exact q
          · exact absurd q (hz y)
    · rw [il_rcW_s h0]
      have hs : ∀ y, bt (seen ||| op) y = true ↔ bt seen y = true ∨ bt op y = true := fun y => by rw [b_or, Bool.or_eq_true]
      have ho : ∀ y, bt (il_rcN fr se v op &&& il_n (seen ||| op)) y = true ↔ bt (il_rcN fr se v op) y = true ∧ ¬ bt (seen ||| op) y = true := fun y => by
        rw [b_an, Bool.and_eq_true, Bool.not_eq_true', Bool.not_eq_true]
      refine ih _ _ (fun y k1 k2 => ((ho y).mp k2).2 k1) (fun i hi => bf fun q => ?_) (fun y hy q => ?_) (fun y hy q => Or.inl ((hs y).mpr (h4 y hy q))) (fun z hz q hp y hy hg => ?_) ?_ x hx
      · obtain ⟨k, hk, -, q2⟩ := (b_rcN hv).mp ((ho i).mp q).1
        rw [hwf k hk i hi] at q2
        cases q2
      · rcases q with q | q
        · exact h3 y hy ((hs y).mp q)
        · obtain ⟨k, hk, ⟨q1, q2⟩, q3⟩ := (b_rcN hv).mp ((ho y).mp q).1
          exact re_step hk (h3 k hk (Or.inr q1)) q2 hy q3
      · by_cases c : bt (seen ||| op) y = true
        · exact Or.inl c
        · rcases (hs z).mp q with q | q
          · exact absurd ((hs y).mpr (h5 z hz q hp y hy hg)) c
          · exact Or.inr ((ho y).mpr ⟨(b_rcN hv).mpr ⟨z, hz, ⟨q, hp⟩, hg⟩, c⟩)
      · obtain ⟨i, -, hi⟩ := b_ne0 h0
        have hi12 : i < 12 := by
          rcases Nat.lt_or_ge i 12 with q | q
          · exact q
          · rw [h2 i q] at hi; cases hi
        have := cnt_lt (N := 12) (x := seen) (y := seen ||| op) (fun w _ q => (hs w).mpr (Or.inl q)) hi12 (fun q => h1 i q hi) ((hs i).mpr (Or.inr hi))
        omega
theorem seen_spec (hv : v < 32) (hwf : il_wf 12 fr) {b : Nat} (hb : b < 12) {x : Nat} (hx : x < 12) : bt (il_rcW fr se v 13 0 (fr b)) x = true ↔ il_Re fr (fun z => bt (se z) v = false) (fr b) x := by
  have hz : ∀ y, ¬ bt (0 : Int32) y = true := fun y => by rw [b_0]; decide
  refine rc_while hv hwf (fr b) 13 0 (fr b) (fun y q => absurd q (hz y)) (hwf b hb) (fun y hy q => ?_) (fun y hy q => Or.inr q) (fun z _ q => absurd q (hz z)) (by omega) x hx
  rcases q with q | q
  · exact absurd q (hz y)
  · exact fun Z h1 _ => h1 y hy q
end REA
theorem far_eq {to nx se se1 : il_F} (ht : il_eq to nx) (hs : il_eq se se1) {a v : Nat} (ha : a < 12) : im_far nx se1 a v = im_far to se a v := by
  unfold im_far
  rw [ht a ha]
  refine up_cg (fun _ _ x => ?_)
  unfold im_faR
  refine up_cg (fun i hi y => ?_)
  unfold im_faS
  rw [ht i hi, hs i hi]
theorem reF_eq {to fr se nx se1 : il_F} (hwf : il_wf 12 fr) (htp : il_tp to fr) (ht : il_eq to nx) (hs : il_eq se se1) {b v : Nat} (hb : b < 12) (hv : v < 20) : il_reF fr se b v = im_reF nx se1 b v := by
  apply b_ext
  intro i _
  have e1 : bt (il_reF fr se b v) i = true ↔ ∃ k, k < 12 ∧ (bt (il_rcW fr se v 13 0 (fr b)) k = true ∧ bt (se k) v = true) ∧ bt (il_o k) i = true := by
    unfold il_reF
    rw [b_acc (f := il_reS se v (il_rcW fr se v 13 0 (fr b))) (N := 12) (P := fun k => bt (il_rcW fr se v 13 0 (fr b)) k = true ∧ bt (se k) v = true) (g := il_o) ?_ ?_ 0 i 12 (Nat.le_refl _), b_0]
    · constructor
      · intro h
        rcases h with h | h
        · cases h
        · exact h
      · intro h; exact Or.inr h
    · intro k hk h a
      unfold il_reS
      rw [if_pos ((il_b1 (by omega)).mpr h.1), if_pos ((il_b1 (by omega)).mpr h.2)]
    · intro k hk h a
      unfold il_reS
      by_cases c : il_b (il_rcW fr se v 13 0 (fr b)) k = 1
      · rw [if_pos c, if_neg (fun q => h ⟨(il_b1 (by omega)).mp c, (il_b1 (by omega)).mp q⟩)]
      · rw [if_neg c]
  have e2 : bt (im_reF nx se1 b v) i = true ↔ ∃ k, k < 12 ∧ (bt (se k) v = true ∧ bt (im_far to se k v) b = true) ∧ bt (il_o k) i = true := by
    unfold im_reF
    rw [b_acc (f := im_reS nx se1 b v) (N := 12) (P := fun k => bt (se k) v = true ∧ bt (im_far to se k v) b = true) (g := il_o) ?_ ?_ 0 i 12 (Nat.le_refl _), b_0]
    · constructor
      · intro h
        rcases h with h | h
        · cases h
        · exact h
      · intro h; exact Or.inr h
    · intro k hk h a
      unfold im_reS
      rw [hs k hk, far_eq ht hs hk, hs_if (by omega), hs_if (by omega), if_pos ((il_b1 (by omega)).mpr h.1), if_pos ((il_b1 (by omega)).mpr h.2)]
    · intro k hk h a
      unfold im_reS
      rw [hs k hk, far_eq ht hs hk, hs_if (by omega), hs_if (by omega)]
      by_cases c : il_b (se k) v = 1
      · rw [if_pos c, if_neg (fun q => h ⟨(il_b1 (by omega)).mp c, (il_b1 (by omega)).mp q⟩)]
      · rw [if_neg c]
  have e3 : ∀ k, k < 12 → (bt (il_rcW fr se v 13 0 (fr b)) k = true ↔ bt (im_far to se k v) b = true) := by
    intro k hk
    rw [seen_spec (by omega) hwf hb hk, far_spec (by omega) hb]
    constructor
    · exact re_dual (f := fr) (g := to) (fun x hx y hy => (htp y hy x hx).symm) hb hk
    · exact re_dual (f := to) (g := fr) (fun x hx y hy => htp x hx y hy) hk hb
  have e4 : bt (il_reF fr se b v) i = true ↔ bt (im_reF nx se1 b v) i = true := by
    rw [e1, e2]
    constructor
    · rintro ⟨k, hk, ⟨h1, h2⟩, h3⟩
      exact ⟨k, hk, ⟨h2, (e3 k hk).mp h1⟩, h3⟩
    · rintro ⟨k, hk, ⟨h1, h2⟩, h3⟩
      exact ⟨k, hk, ⟨(e3 k hk).mpr h2, h1⟩, h3⟩
  exact Bool.eq_iff_iff.mpr e4
theorem q_reach {to fr us se lv nx us1 se1 : il_F} (h : il_Inv to fr us se lv nx us1 se1) (p0 p1 : Int32) : il_reach fr se p0 p1 = im_reach nx se1 p0 p1 := by
  unfold il_reach im_reach
  by_cases c : il_bad p0 = 0
  · obtain ⟨b, hb, rfl⟩ := il_bad_in c
    rw [if_pos c, if_neg (im_isB_nI hb)]
    by_cases c2 : il_badV p1 = 0
    · obtain ⟨v, hv, rfl⟩ := il_badV_in c2
      rw [if_pos c2, if_neg (im_isV_nI hv), il_nat_nI (i := b) (by omega), il_nat_nI (i := v) (by omega)]
      exact reF_eq h.1.2.1 h.1.2.2.1 h.2.1 h.2.2.2 hb hv
    · rw [if_neg c2, if_pos (badV_no c2)]
  · rw [if_neg c, if_pos (bad_no c)]
end
section
/-! crowded: pairs counted once, or twice and halved -/
theorem il_b_nI {x : Int32} {i : Nat} (hi : i < 32) : il_b x i = nI (bt x i).toNat := by
  rw [il_b_eq hi]
  cases bt x i <;> decide
theorem size_nI (x : Int32) : il_size x = nI (il_cnt 20 x) := by
  have key : ∀ n, n ≤ 20 → il_up (il_szS x) n 0 = nI (il_cnt n x) := by
    intro n
    induction n with
    | zero => intro _; exact nI_0.symm
    | succ n ih =>
      intro hn
      rw [il_up_s, ih (by omega)]
      unfold il_szS
      rw [il_b_nI (by omega), nI_add]
      rfl
  exact key 20 (Nat.le_refl _)
theorem sum_nI {f : Nat → Int32 → Int32} {g : Nat → Nat} : ∀ n, (∀ i, i < n → ∀ a, f i a = a + nI (g i)) → il_up f n 0 = nI (il_sum g n) := by
  intro n
  induction n with
  | zero => intro _; exact nI_0.symm
  | succ n ih =>
    intro h
    rw [il_up_s, ih (fun i hi => h i (by omega)), h n (by omega), nI_add]
    rfl
section CRO
variable {lv : il_F}
theorem b_tog {v u : Nat} (hv : v < 32) : bt (il_tog lv v) u = true ↔ ∃ k, k < 12 ∧ bt (lv k) v = true ∧ bt (lv k) u = true := by
  unfold il_tog
  rw [b_acc (f := il_toS lv v) (N := 12) (P := fun k => bt (lv k) v = true) (g := lv) (fun i hi h a => if_pos ((il_b1 hv).mpr h)) (fun i hi h a => if_neg (fun q => h ((il_b1 hv).mp q))) 0 u 12 (Nat.le_refl _), b_0]
  constructor
  · intro h
    rcases h with h | h
    · cases h
    · exact h
  · intro h; exact Or.inr h
theorem tog_sym {v u : Nat} (hv : v < 32) (hu : u < 32) : bt (il_tog lv v) u = bt (il_tog lv u) v := by
  refine Bool.eq_iff_iff.mpr ?_
  rw [b_tog hv, b_tog hu]
  constructor
  · rintro ⟨k, hk, h1, h2⟩; exact ⟨k, hk, h2, h1⟩
  · rintro ⟨k, hk, h1, h2⟩; exact ⟨k, hk, h2, h1⟩
theorem tog_wf (hw : il_wf 20 lv) {v u : Nat} (hv : v < 32) (hu : 20 ≤ u) : bt (il_tog lv v) u = false := by
  refine bf fun q => ?_
  obtain ⟨k, hk, -, h2⟩ := (b_tog hv).mp q
  rw [hw k hk u hu] at h2
  cases h2
theorem cnt_sh (hw : il_wf 20 lv) {v : Nat} (hv : v < 20) : il_cnt 20 (il_tog lv v >>> ((nI v + 1) &&& 31)) = il_sum (fun u => if v + 1 ≤ u then (bt (il_tog lv v) u).toNat else 0) 20 := by
  have h1 : il_cnt 20 (il_tog lv v >>> ((nI v + 1) &&& 31)) = il_sum (fun w => (bt (il_tog lv v) (v + 1 + w)).toNat) 20 := by
    refine sum_cg (fun i hi => ?_)
    rw [nI_1, b_sshr (v + 1) (by omega) _ (show i < 32 by omega)]
    by_cases c : v + 1 + i < 32
    · rw [if_pos c]
    · rw [if_neg c, tog_wf hw (by omega) (show 20 ≤ 31 by omega), tog_wf hw (by omega) (show 20 ≤ v + 1 + i by omega)]
  rw [h1, sum_shift (fun u => (bt (il_tog lv v) u).toNat) (v + 1) 20, Nat.add_comm (v + 1) 20]
  refine sum_tail (fun i hi => ?_) _
  rw [tog_wf hw (by omega) hi]
  by_cases c : v + 1 ≤ i
  · rw [if_pos c]; rfl
  · rw [if_neg c]
theorem pairs (m : Nat → Nat → Bool) (hs : ∀ v, v < 20 → ∀ u, u < 20 → m v u = m u v) : il_sum (fun v => il_sum (fun u => (m v u && !decide (u = v)).toNat) 20) 20 = il_sum (fun v => il_sum (fun u => if v + 1 ≤ u then (m v u).toNat else 0) 20) 20 + il_sum (fun v => il_sum (fun u => if v + 1 ≤ u then (m v u).toNat else 0) 20) 20 := by
  have h1 : il_sum (fun v => il_sum (fun u => (m v u && !decide (u = v)).toNat) 20) 20 = il_sum (fun v => il_sum (fun u => if v + 1 ≤ u then (m v u).toNat else 0) 20 + il_sum (fun u => if u + 1 ≤ v then (m u v).toNat else 0) 20) 20 := by
    refine sum_cg (fun v hv => ?_)
    rw [← sum_add]
    refine sum_cg (fun u hu => ?_)
    rw [← hs v hv u hu]
    rcases Nat.lt_trichotomy u v with h | h | h
    · rw [if_neg (show ¬ v + 1 ≤ u by omega), if_pos (show u + 1 ≤ v by omega), decide_eq_false (show ¬ u = v by omega), Bool.not_false, Bool.and_true, Nat.zero_add]
    · rw [if_neg (show ¬ v + 1 ≤ u by omega), if_neg (show ¬ u + 1 ≤ v by omega), decide_eq_true h, Bool.not_true, Bool.and_false]
      rfl
    · rw [if_pos (show v + 1 ≤ u by omega), if_neg (show ¬ u + 1 ≤ v by omega), decide_eq_false (show ¬ u = v by omega), Bool.not_false, Bool.and_true, Nat.add_zero]
  rw [h1, sum_add, sum_swap (fun v u => if u + 1 ≤ v then (m u v).toNat else 0) 20 20]
end CRO
theorem q_crowd {to fr us se lv nx us1 se1 : il_F} (h : il_Inv to fr us se lv nx us1 se1) (lv1 : il_F) : il_crowd lv = im_crowd nx us1 se1 lv1 := by
  have hw : il_wf 20 lv := fun b hb i hi => bf fun q => by
    have := sub_wf h.1.2.2.2.1 h.1.2.2.2.2.2.2 hb q
    omega
  have e1 : il_crowd lv = nI (il_sum (fun v => il_sum (fun u => if v + 1 ≤ u then (bt (il_tog lv v) u).toNat else 0) 20) 20) := by
    refine sum_nI 20 (fun i hi a => ?_)
    unfold il_crS
    rw [size_nI, cnt_sh hw hi]
  have e2 : il_up (im_crS (im_spread nx us1 se1 lv1)) 20 0 = nI (il_sum (fun v => il_sum (fun u => (bt (il_tog lv v) u && !decide (u = v)).toNat) 20) 20) := by
    refine sum_nI 20 (fun i hi a => ?_)
    unfold im_crS
    rw [size_eq, size_nI]
    have e3 : im_beside (im_spread nx us1 se1 lv1) i = il_tog lv i &&& il_n (il_o i) := by
      unfold im_beside il_tog
      have e4 : il_up (im_beS (im_spread nx us1 se1 lv1) i) 12 0 = il_up (il_toS lv i) 12 0 := by
        refine up_cg (fun k hk x => ?_)
        unfold im_beS il_toS
        rw [ms_eq h lv1 hk, hs_if (by omega)]
      rw [e4]
    rw [e3]
    have e5 : il_cnt 20 (il_tog lv i &&& il_n (il_o i)) = il_sum (fun u => (bt (il_tog lv i) u && !decide (u = i)).toNat) 20 := by
      refine sum_cg (fun u hu => ?_)
      rw [b_an, b_o (by omega)]
    rw [e5]
  unfold im_crowd
  rw [e2, pairs (fun v u => bt (il_tog lv v) u) (fun v hv u hu => tog_sym (by omega) (by omega)), e1]
  have hb : il_sum (fun v => il_sum (fun u => if v + 1 ≤ u then (bt (il_tog lv v) u).toNat else 0) 20) 20 ≤ 20 * (20 * 1) := by
    refine sum_bd (fun v _ => sum_bd (fun u _ => ?_))
    by_cases c : v + 1 ≤ u
    · rw [if_pos c]; exact tn_1 _
    · rw [if_neg c]; omega
  generalize il_sum (fun v => il_sum (fun u => if v + 1 ≤ u then (bt (il_tog lv v) u).toNat else 0) 20) 20 = S at hb
  have e6 : nI (S + S) / nI 2 = nI ((S + S) / 2) := pk_div (by omega) (by decide) (by decide)
  show nI S = nI (S + S) / nI 2
  rw [e6, show (S + S) / 2 = S by omega]
end
section
/-! cutOff and takeOver: many arcs -/
section CUT
variable {us se : il_F}
theorem part_st {a b : Nat} (ha : a < 12) (hb : b < 12) {st : il_S3} (h : il_G us se st) : il_G us se (il_part us se a b st) ∧ ∀ y j, bt ((il_part us se a b st).1 y) j = (bt (st.1 y) j && !decide (y = a ∧ j = b)) := by
  obtain ⟨to, fr, lv⟩ := st
  obtain ⟨h1, h2⟩ := part_G ha hb h
  refine ⟨h1, fun y j => ?_⟩
  rw [h2 y]
  by_cases e : y = a
  · subst e
    rw [pk_us, b_an, b_o (by omega)]
    by_cases e2 : j = b
    · rw [decide_eq_true e2, decide_eq_true ⟨rfl, e2⟩]
    · rw [decide_eq_false e2, decide_eq_false (fun q => e2 q.2)]
  · rw [pk_un e, decide_eq_false (fun q => e q.1), Bool.not_false, Bool.and_true]
theorem join_st {a b : Nat} (ha : a < 12) (hb : b < 12) {st : il_S3} (h : il_G us se st) : il_G us se (il_join us se a b st) ∧ ∀ y j, bt ((il_join us se a b st).1 y) j = (bt (st.1 y) j || decide (y = a ∧ j = b)) := by
  obtain ⟨to, fr, lv⟩ := st
  obtain ⟨h1, h2⟩ := join_G ha hb h
  refine ⟨h1, fun y j => ?_⟩
  rw [h2 y]
  by_cases e : y = a
  · subst e
    rw [pk_us, b_or, b_o (by omega)]
    by_cases e2 : j = b
    · rw [decide_eq_true e2, decide_eq_true ⟨rfl, e2⟩]
    · rw [decide_eq_false e2, decide_eq_false (fun q => e2 q.2)]
  · rw [pk_un e, decide_eq_false (fun q => e q.1), Bool.or_false]
theorem cut_loop {b : Nat} (hb : b < 12) {st : il_S3} (h : il_G us se st) : ∀ k, k ≤ 12 → il_G us se (il_cutL us se b k st).2 ∧ (∀ y j, bt ((il_cutL us se b k st).2.1 y) j = (bt (st.1 y) j && !(decide (y = b ∧ j < k) || decide (j = b ∧ y < k)))) ∧ (il_cutL us se b k st).1 = nI (il_sum (fun i => (bt (st.1 b) i).toNat + if i = b then 0 else (bt (st.1 i) b).toNat) k) := by
  intro k
  induction k with
  | zero =>
    intro _
    refine ⟨h, fun y j => ?_, nI_0.symm⟩
    rw [decide_eq_false (by omega), decide_eq_false (by omega), Bool.or_false, Bool.not_false, Bool.and_true]
    rfl
  | succ k ih =>
    intro hk
    obtain ⟨i1, i2, i3⟩ := ih (by omega)
    have e : il_cutL us se b (k + 1) st = il_cutS us se b k (il_cutL us se b k st).1 (il_cutL us se b k st).2 := rfl
    rw [e]
    generalize il_cutL us se b k st = x at i1 i2 i3
    obtain ⟨n, s1⟩ := x
    have i1 : il_G us se s1 := i1
    have i2 : ∀ y j, bt (s1.1 y) j = (bt (st.1 y) j && !(decide (y = b ∧ j < k) || decide (j = b ∧ y < k))) := i2
    have i3 : n = nI (il_sum (fun i => (bt (st.1 b) i).toNat + if i = b then 0 else (bt (st.1 i) b).toNat) k) := i3
    obtain ⟨p1, p2⟩ := part_st (us := us) (se := se) hb (show k < 12 by omega) i1
    obtain ⟨r1, r2⟩ := part_st (us := us) (se := se) (show k < 12 by omega) hb p1
    refine ⟨r1, fun y j => ?_, ?_⟩
    · show bt ((il_part us se k b (il_part us se b k s1)).1 y) j = _
      rw [r2 y j, p2 y j, i2 y j, Bool.and_assoc, Bool.and_assoc]
      congr 1
      by_cases c1 : y = b ∧ j < k
      · rw [decide_eq_true c1, decide_eq_true (⟨c1.1, by omega⟩ : y = b ∧ j < k + 1), Bool.true_or, Bool.true_or, Bool.not_true, Bool.false_and]
      · by_cases c2 : j = b ∧ y < k
        · rw [decide_eq_true c2, decide_eq_true (⟨c2.1, by omega⟩ : j = b ∧ y < k + 1), Bool.or_true, Bool.or_true, Bool.not_true, Bool.false_and]
        · rw [decide_eq_false c1, decide_eq_false c2, Bool.or_false, Bool.not_false, Bool.true_and]
          by_cases c3 : y = b ∧ j = k
          · rw [decide_eq_true c3, decide_eq_true (⟨c3.1, by omega⟩ : y = b ∧ j < k + 1), Bool.not_true, Bool.false_and, Bool.true_or]
            rfl
          · rw [decide_eq_false c3, decide_eq_false (fun q : y = b ∧ j < k + 1 => (by rcases Nat.lt_or_ge j k with w | w; exact c1 ⟨q.1, w⟩; exact c3 ⟨q.1, by omega⟩ : False)), Bool.not_false, Bool.true_and, Bool.false_or]
            by_cases c4 : y = k ∧ j = b
            · rw [decide_eq_true c4, decide_eq_true (⟨c4.2, by omega⟩ : j = b ∧ y < k + 1)]
            · rw [decide_eq_false c4, decide_eq_false (fun q : j = b ∧ y < k + 1 => (by rcases Nat.lt_or_ge y k with w | w; exact c2 ⟨q.1, w⟩; exact c4 ⟨by omega, q.1⟩ : False))]
    · show (n + il_b (s1.1 b) k) + il_b ((il_part us se b k s1).1 k) b = _
      have e1 : bt (s1.1 b) k = bt (st.1 b) k := by
        rw [i2, decide_eq_false (by omega), decide_eq_false (by omega), Bool.or_false, Bool.not_false, Bool.and_true]
      have e2 : (bt ((il_part us se b k s1).1 k) b).toNat = if k = b then 0 else (bt (st.1 k) b).toNat := by
        rw [p2, i2, decide_eq_false (show ¬ (k = b ∧ b < k) by omega), decide_eq_false (show ¬ (b = b ∧ k < k) by omega), Bool.or_false, Bool.not_false, Bool.and_true]
        by_cases c : k = b
        · rw [if_pos c, decide_eq_true ⟨c, c.symm⟩, Bool.not_true, Bool.and_false]; rfl
        · rw [if_neg c, decide_eq_false (fun q => c q.1), Bool.not_false, Bool.and_true]
      rw [il_b_nI (by omega), il_b_nI (by omega), e1, e2, i3, nI_add, nI_add, sum_s, Nat.add_assoc]
theorem imcut_loop {b : Nat} (hb : b < 12) {nx : il_F} : ∀ k, k ≤ 12 → (∀ y, (im_cutL b k nx).2 y = if y < k then upd nx b 0 y &&& il_n (il_o b) else upd nx b 0 y) ∧ (im_cutL b k nx).1 = nI (il_cnt 20 (nx b) + il_sum (fun i => if i = b then 0 else (bt (nx i) b).toNat) k) := by
  intro k
  induction k with
  | zero =>
    intro _
    refine ⟨fun y => by rw [if_neg (by omega)]; rfl, ?_⟩
    show im_size (nx b) = _
    rw [size_eq, size_nI]
    rfl
  | succ k ih =>
    intro hk
    obtain ⟨i2, i3⟩ := ih (by omega)
    have e : im_cutL b (k + 1) nx = im_cutS b k (im_cutL b k nx).1 (im_cutL b k nx).2 := rfl
    rw [e]
    generalize im_cutL b k nx = x at i2 i3
    obtain ⟨n, m⟩ := x
    have i2 : ∀ y, m y = if y < k then upd nx b 0 y &&& il_n (il_o b) else upd nx b 0 y := i2
    have i3 : n = nI (il_cnt 20 (nx b) + il_sum (fun i => if i = b then 0 else (bt (nx i) b).toNat) k) := i3
    refine ⟨fun y => ?_, ?_⟩
    · show upd m k (m k &&& il_n (il_o b)) y = _
      by_cases c : y = k
      · subst c
        rw [pk_us, i2, if_neg (by omega), if_pos (by omega)]
      · rw [pk_un c, i2]
        by_cases g : y < k
        · rw [if_pos g, if_pos (by omega)]
        · rw [if_neg g, if_neg (by omega)]
    · show (if im_has (m k) b = 0 then n else n + 1) = _
      have e2 : (bt (m k) b).toNat = if k = b then 0 else (bt (nx k) b).toNat := by
        rw [i2, if_neg (by omega)]
        by_cases c : k = b
        · subst c; rw [pk_us, if_pos rfl, b_0]; rfl
        · rw [pk_un c, if_neg c]
      have e3 : (if im_has (m k) b = 0 then n else n + 1) = n + nI (bt (m k) b).toNat := by
        cases q : bt (m k) b with
        | true => rw [if_neg (fun z => by rw [(im_has0 (by omega)).mp z] at q; cases q)]; rfl
        | false => rw [if_pos ((im_has0 (by omega)).mpr q)]; exact (Int32.add_zero n).symm
      rw [e3, e2, i3, nI_add, sum_s, Nat.add_assoc]
theorem cnt_12 {x : Int32} (h : ∀ i, 12 ≤ i → bt x i = false) : il_cnt 20 x = il_cnt 12 x := sum_tail (N := 12) (fun i hi => by rw [h i hi]; rfl) 8
theorem cut_all {b : Nat} (hb : b < 12) {st : il_S3} (h : il_G us se st) {nx : il_F} (ht : il_eq st.1 nx) : (il_cutL us se b 12 st).1 = (im_cutL b 12 nx).1 ∧ il_G us se (il_cutL us se b 12 st).2 ∧ il_eq (il_cutL us se b 12 st).2.1 (im_cutL b 12 nx).2 := by
  obtain ⟨i1, i2, i3⟩ := cut_loop hb h 12 (Nat.le_refl _)
  obtain ⟨j2, j3⟩ := imcut_loop hb (nx := nx) 12 (Nat.le_refl _)
  refine ⟨?_, i1, fun y hy => ?_⟩
  · rw [i3, j3, ht b hb, cnt_12 (h.1 b hb), sum_add]
    unfold il_cnt
    congr 2
    refine sum_cg (fun i hi => ?_)
    rw [ht i hi]
  · rw [j2, if_pos hy]
    apply b_ext
    intro j _
    rw [i2, b_an, b_o (by omega)]
    by_cases c : y = b
    · subst c
      rw [pk_us, b_0, Bool.false_and]
      rcases Nat.lt_or_ge j 12 with g | g
      · rw [decide_eq_true ⟨rfl, g⟩, Bool.true_or, Bool.not_true, Bool.and_false]
      · rw [h.1 y hy j g, Bool.false_and]
    · rw [pk_un c, ht y hy, decide_eq_false (show ¬ (y = b ∧ j < 12) from fun q => c q.1), Bool.false_or]
      by_cases e : j = b
      · rw [decide_eq_true e, decide_eq_true ⟨e, hy⟩]
      · rw [decide_eq_false e, decide_eq_false (fun q => e q.1)]
theorem tk_loop {b d : Nat} (hb : b < 12) (hd : d < 12) (hbd : b ≠ d) {st : il_S3} (h : il_G us se st) : ∀ k, k ≤ 12 → il_G us se (il_tkL us se b d k st).2 ∧ (∀ y j, bt ((il_tkL us se b d k st).2.1 y) j = ((bt (st.1 y) j && !decide (y = d ∧ j < k)) || (decide (y = b ∧ j < k) && bt (st.1 d) j))) ∧ (il_tkL us se b d k st).1 = nI (il_sum (fun i => (bt (st.1 d) i && !bt (st.1 b) i).toNat) k) := by
  intro k
  induction k with
  | zero =>
    intro _
    refine ⟨h, fun y j => ?_, nI_0.symm⟩
    rw [decide_eq_false (by omega), decide_eq_false (by omega), Bool.not_false, Bool.and_true, Bool.false_and, Bool.or_false]
    rfl
  | succ k ih =>
    intro hk
    obtain ⟨i1, i2, i3⟩ := ih (by omega)
    have e : il_tkL us se b d (k + 1) st = il_tkS us se b d k (il_tkL us se b d k st).1 (il_tkL us se b d k st).2 := rfl
    rw [e]
    generalize il_tkL us se b d k st = x at i1 i2 i3
    obtain ⟨n, t1, f1, l1⟩ := x
    have i1 : il_G us se (t1, f1, l1) := i1
    have i2 : ∀ y j, bt (t1 y) j = ((bt (st.1 y) j && !decide (y = d ∧ j < k)) || (decide (y = b ∧ j < k) && bt (st.1 d) j)) := i2
    have i3 : n = nI (il_sum (fun i => (bt (st.1 d) i && !bt (st.1 b) i).toNat) k) := i3
    have ed : bt (t1 d) k = bt (st.1 d) k := by
      rw [i2, decide_eq_false (show ¬ (d = d ∧ k < k) by omega), decide_eq_false (show ¬ (d = b ∧ k < k) by omega), Bool.not_false, Bool.and_true, Bool.false_and, Bool.or_false]
    have eb : bt (t1 b) k = bt (st.1 b) k := by
      rw [i2, decide_eq_false (show ¬ (b = d ∧ k < k) by omega), decide_eq_false (show ¬ (b = b ∧ k < k) by omega), Bool.not_false, Bool.and_true, Bool.false_and, Bool.or_false]
    by_cases c : il_b (t1 d) k = 1
    · have ck : bt (st.1 d) k = true := by rw [← ed]; exact (il_b1 (by omega)).mp c
      show il_G us se (il_tkS us se b d k n (t1, f1, l1)).2 ∧ _
      rw [il_tkS_t c]
      obtain ⟨p1, p2⟩ := part_st (us := us) (se := se) hd (show k < 12 by omega) i1
      obtain ⟨r1, r2⟩ := join_st (us := us) (se := se) hb (show k < 12 by omega) p1
      refine ⟨r1, fun y j => ?_, ?_⟩
      · show bt ((il_join us se b k (il_part us se d k (t1, f1, l1))).1 y) j = _
        rw [r2 y j, p2 y j]
        show ((bt (t1 y) j && _) || _) = _
        rw [i2 y j]
        by_cases ej : j = k
        · subst ej
          rw [decide_eq_false (show ¬ (y = d ∧ j < j) by omega), decide_eq_false (show ¬ (y = b ∧ j < j) by omega), Bool.not_false, Bool.and_true, Bool.false_and, Bool.or_false, ck, Bool.and_true]
          congr 1
          · congr 2
            exact decide_eq_decide.mpr ⟨fun q => ⟨q.1, by omega⟩, fun q => ⟨q.1, rfl⟩⟩
          · exact decide_eq_decide.mpr ⟨fun q => ⟨q.1, by omega⟩, fun q => ⟨q.1, rfl⟩⟩
        · rw [decide_eq_false (show ¬ (y = d ∧ j = k) from fun q => ej q.2), decide_eq_false (show ¬ (y = b ∧ j = k) from fun q => ej q.2), Bool.not_false, Bool.and_true, Bool.or_false]
          have g1 : decide (y = d ∧ j < k + 1) = decide (y = d ∧ j < k) := decide_eq_decide.mpr ⟨fun q => ⟨q.1, by omega⟩, fun q => ⟨q.1, by omega⟩⟩
          have g2 : decide (y = b ∧ j < k + 1) = decide (y = b ∧ j < k) := decide_eq_decide.mpr ⟨fun q => ⟨q.1, by omega⟩, fun q => ⟨q.1, by omega⟩⟩
          rw [g1, g2]
      · show (n + 1) - il_b ((il_part us se d k (t1, f1, l1)).1 b) k = _
        have e1 : bt ((il_part us se d k (t1, f1, l1)).1 b) k = bt (st.1 b) k := by
          rw [p2, decide_eq_false (fun q => hbd q.1), Bool.not_false, Bool.and_true]
          exact eb
        rw [il_b_nI (by omega), e1, i3, sum_s, ck, Bool.true_and, nI_1, pk_sub (by have := tn_1 (bt (st.1 b) k); omega)]
        congr 1
        cases bt (st.1 b) k <;> simp
    · have ck : bt (st.1 d) k = false := by rw [← ed]; exact bf fun q => c ((il_b1 (by omega)).mpr q)
      show il_G us se (il_tkS us se b d k n (t1, f1, l1)).2 ∧ _
      rw [il_tkS_f c]
      refine ⟨i1, fun y j => ?_, ?_⟩
      · show bt (t1 y) j = _
        rw [i2 y j]
        by_cases ej : j = k
        · subst ej
          rw [decide_eq_false (show ¬ (y = d ∧ j < j) by omega), decide_eq_false (show ¬ (y = b ∧ j < j) by omega), Bool.not_false, Bool.and_true, Bool.false_and, ck, Bool.and_false, Bool.or_false, Bool.or_false]
          by_cases g : y = d
          · subst g; rw [ck, Bool.false_and]
          · rw [decide_eq_false (fun q => g q.1), Bool.not_false, Bool.and_true]
        · have g1 : decide (y = d ∧ j < k + 1) = decide (y = d ∧ j < k) := decide_eq_decide.mpr ⟨fun q => ⟨q.1, by omega⟩, fun q => ⟨q.1, by omega⟩⟩
          have g2 : decide (y = b ∧ j < k + 1) = decide (y = b ∧ j < k) := decide_eq_decide.mpr ⟨fun q => ⟨q.1, by omega⟩, fun q => ⟨q.1, by omega⟩⟩
          rw [g1, g2]
      · show n = _
        rw [i3, sum_s, ck, Bool.false_and]
        rfl
theorem tk_all {b d : Nat} (hb : b < 12) (hd : d < 12) (hbd : b ≠ d) {st : il_S3} (h : il_G us se st) {nx : il_F} (ht : il_eq st.1 nx) : (il_tkL us se b d 12 st).1 = im_size (nx d &&& il_n (nx b)) ∧ il_G us se (il_tkL us se b d 12 st).2 ∧ il_eq (il_tkL us se b d 12 st).2.1 (im_tk nx b d) := by
  obtain ⟨i1, i2, i3⟩ := tk_loop hb hd hbd h 12 (Nat.le_refl _)
  refine ⟨?_, i1, fun y hy => ?_⟩
  · rw [i3, size_eq, size_nI, ht d hd, ht b hb, cnt_12 (fun i hi => by rw [b_an, h.1 d hd i hi, Bool.false_and])]
    unfold il_cnt
    congr 1
    refine sum_cg (fun i hi => ?_)
    rw [b_an]
  · apply b_ext
    intro j _
    rw [i2]
    unfold im_tk
    by_cases c : y = d
    · subst c
      rw [pk_us, b_0, decide_eq_false (show ¬ (y = b ∧ j < 12) from fun q => hbd q.1.symm), Bool.false_and, Bool.or_false]
      rcases Nat.lt_or_ge j 12 with g | g
      · rw [decide_eq_true ⟨rfl, g⟩, Bool.not_true, Bool.and_false]
      · rw [h.1 y hy j g, Bool.false_and]
    · rw [pk_un c, decide_eq_false (show ¬ (y = d ∧ j < 12) from fun q => c q.1), Bool.not_false, Bool.and_true]
      by_cases c2 : y = b
      · subst c2
        rw [pk_us, b_or, ht y hy, ht d hd]
        rcases Nat.lt_or_ge j 12 with g | g
        · rw [decide_eq_true ⟨rfl, g⟩, Bool.true_and]
        · rw [h.1 d hd j g, Bool.and_false]
      · rw [pk_un c2, ht y hy, decide_eq_false (show ¬ (y = b ∧ j < 12) from fun q => c2 q.1), Bool.false_and, Bool.or_false]
end CUT
end
section
/-! each call keeps it, and the answers are the same -/
theorem put_eq {x : Int32} {v : Nat} (hv : v < 32) (on : Int32) : im_put x v on = il_put x v on := by
  unfold im_put il_put
  by_cases c : on = 0
  · rw [if_pos c, if_pos c]
  · rw [if_neg c, if_neg c]
    apply b_ext
    intro i _
    rw [b_or, b_or, b_an, b_o hv]
    cases decide (i = v) <;> cases bt x i <;> rfl
theorem put_wf {x : Int32} (hx : ∀ i, 20 ≤ i → bt x i = false) {v : Nat} (hv : v < 20) (on : Int32) : ∀ i, 20 ≤ i → bt (il_put x v on) i = false := by
  intro i hi
  unfold il_put
  by_cases c : on = 0
  · rw [if_pos c, b_an, hx i hi, Bool.false_and]
  · rw [if_neg c, b_or, b_an, hx i hi, b_o (by omega), decide_eq_false (by omega), Bool.false_and, Bool.or_false]
theorem eq_upd {f g : il_F} (h : il_eq f g) {b : Nat} {x y : Int32} (hxy : y = x) : il_eq (upd f b x) (upd g b y) := by
  intro k hk
  by_cases e : k = b
  · subst e; rw [pk_us, pk_us, hxy]
  · rw [pk_un e, pk_un e, h k hk]
theorem eq_self {f g : il_F} (h : il_eq f g) {b : Nat} : il_eq (upd f b (f b)) g := by
  intro k hk
  by_cases e : k = b
  · subst e; rw [pk_us, h k hk]
  · rw [pk_un e, h k hk]
section OPS
variable {to fr us se lv nx us1 se1 : il_F}
theorem pl_start : il_Inv (fun _ => 0) (fun _ => 0) (fun _ => 0) (fun _ => 0) (fun _ => 0) (fun _ => 0) (fun _ => 0) (fun _ => 0) := by
  have hz : ∀ y, ¬ bt (0 : Int32) y = true := fun y => by rw [b_0]; decide
  refine ⟨⟨fun _ _ i _ => b_0 i, fun _ _ i _ => b_0 i, fun _ _ _ _ => by rw [b_0, b_0], fun _ _ i _ => b_0 i, fun _ _ i _ => b_0 i, fun b _ v hv => ?_, fun _ _ _ _ v hv => absurd hv (hz v)⟩, fun _ _ => rfl, fun _ _ => rfl, fun _ _ => rfl⟩
  rcases hv with hv | ⟨-, k, -, h2, -⟩
  · exact hv
  · exact absurd h2 (hz k)
theorem pl_arc (h : il_Inv to fr us se lv nx us1 se1) (p0 p1 p2 : Int32) : il_arcR to p0 p1 = im_arcR nx p0 p1 ∧ il_Inv (il_arc us se p0 p1 p2 (to, fr, lv)).1 (il_arc us se p0 p1 p2 (to, fr, lv)).2.1 us se (il_arc us se p0 p1 p2 (to, fr, lv)).2.2 (im_arc nx p0 p1 p2) us1 se1 := by
  unfold il_arcR im_arcR il_arc im_arc
  by_cases c : il_bad p0 = 0
  · obtain ⟨a, ha, rfl⟩ := il_bad_in c
    rw [if_pos c, if_neg (im_isB_nI ha), if_pos c, if_neg (im_isB_nI ha)]
    by_cases c2 : il_bad p1 = 0
    · obtain ⟨b, hb, rfl⟩ := il_bad_in c2
      rw [if_pos c2, if_neg (im_isB_nI hb), if_pos c2, if_neg (im_isB_nI hb), il_nat_nI (i := a) (by omega), il_nat_nI (i := b) (by omega)]
      refine ⟨by rw [h.2.1 a ha], ?_⟩
      unfold il_arcS
      by_cases c3 : p2 = 0
      · rw [if_pos c3]
        obtain ⟨g1, g2⟩ := part_G ha hb h.1
        refine ⟨g1, fun y hy => ?_, h.2.2.1, h.2.2.2⟩
        rw [g2 y]
        refine eq_upd h.2.1 ?_ y hy
        unfold im_put
        rw [if_pos c3, h.2.1 a ha]
      · rw [if_neg c3]
        obtain ⟨g1, g2⟩ := join_G ha hb h.1
        refine ⟨g1, fun y hy => ?_, h.2.2.1, h.2.2.2⟩
        rw [g2 y]
        refine eq_upd h.2.1 ?_ y hy
        unfold im_put
        rw [if_neg c3, h.2.1 a ha]
    · rw [if_neg c2, if_pos (bad_no c2), if_neg c2, if_pos (bad_no c2)]
      exact ⟨rfl, h⟩
  · rw [if_neg c, if_pos (bad_no c), if_neg c, if_pos (bad_no c)]
    exact ⟨rfl, h⟩
theorem pl_hasArc (h : il_Inv to fr us se lv nx us1 se1) (p0 p1 : Int32) : il_hasArc to p0 p1 = im_hasArc nx p0 p1 := by
  unfold il_hasArc im_hasArc
  by_cases c : il_bad p0 = 0
  · obtain ⟨a, ha, rfl⟩ := il_bad_in c
    rw [if_pos c, if_neg (im_isB_nI ha)]
    by_cases c2 : il_bad p1 = 0
    · obtain ⟨b, hb, rfl⟩ := il_bad_in c2
      rw [if_pos c2, if_neg (im_isB_nI hb), il_nat_nI (i := a) (by omega), il_nat_nI (i := b) (by omega), h.2.1 a ha, hs_if (by omega)]
    · rw [if_neg c2, if_pos (bad_no c2)]
  · rw [if_neg c, if_pos (bad_no c)]
theorem pl_dig {f f1 : il_F} (h : il_eq f f1) (p0 p1 : Int32) : il_digR f p0 p1 = im_useR f1 p0 p1 := by
  unfold il_digR im_useR
  by_cases c : il_bad p0 = 0
  · obtain ⟨a, ha, rfl⟩ := il_bad_in c
    rw [if_pos c, if_neg (im_isB_nI ha)]
    by_cases c2 : il_badV p1 = 0
    · obtain ⟨b, hb, rfl⟩ := il_badV_in c2
      rw [if_pos c2, if_neg (im_isV_nI hb), il_nat_nI (i := a) (by omega), il_nat_nI (i := b) (by omega), h a ha]
    · rw [if_neg c2, if_pos (badV_no c2)]
  · rw [if_neg c, if_pos (bad_no c)]
theorem pl_use (h : il_Inv to fr us se lv nx us1 se1) (p0 p1 p2 : Int32) : il_digR us p0 p1 = im_useR us1 p0 p1 ∧ il_Inv to fr (il_use to fr p0 p1 p2 (us, se, lv)).1 (il_use to fr p0 p1 p2 (us, se, lv)).2.1 (il_use to fr p0 p1 p2 (us, se, lv)).2.2 nx (im_use us1 p0 p1 p2) se1 := by
  refine ⟨pl_dig h.2.2.1 p0 p1, ?_⟩
  unfold il_use im_use
  by_cases c : il_bad p0 = 0
  · obtain ⟨b, hb, rfl⟩ := il_bad_in c
    rw [if_pos c, if_neg (im_isB_nI hb)]
    by_cases c2 : il_badV p1 = 0
    · obtain ⟨v, hv, rfl⟩ := il_badV_in c2
      rw [if_pos c2, if_neg (im_isV_nI hv), il_nat_nI (i := b) (by omega), il_nat_nI (i := v) (by omega)]
      refine ⟨change_G hb (put_wf (h.1.2.2.2.1 b hb) hv p2) (h.1.2.2.2.2.1 b hb) h.1, h.2.1, eq_upd h.2.2.1 ?_, eq_self h.2.2.2⟩
      rw [h.2.2.1 b hb, put_eq (by omega)]
    · rw [if_neg c2, if_pos (badV_no c2)]
      exact h
  · rw [if_neg c, if_pos (bad_no c)]
    exact h
theorem pl_set (h : il_Inv to fr us se lv nx us1 se1) (p0 p1 p2 : Int32) : il_digR se p0 p1 = im_useR se1 p0 p1 ∧ il_Inv to fr (il_set to fr p0 p1 p2 (us, se, lv)).1 (il_set to fr p0 p1 p2 (us, se, lv)).2.1 (il_set to fr p0 p1 p2 (us, se, lv)).2.2 nx us1 (im_use se1 p0 p1 p2) := by
  refine ⟨pl_dig h.2.2.2 p0 p1, ?_⟩
  unfold il_set im_use
  by_cases c : il_bad p0 = 0
  · obtain ⟨b, hb, rfl⟩ := il_bad_in c
    rw [if_pos c, if_neg (im_isB_nI hb)]
    by_cases c2 : il_badV p1 = 0
    · obtain ⟨v, hv, rfl⟩ := il_badV_in c2
      rw [if_pos c2, if_neg (im_isV_nI hv), il_nat_nI (i := b) (by omega), il_nat_nI (i := v) (by omega)]
      refine ⟨change_G hb (h.1.2.2.2.1 b hb) (put_wf (h.1.2.2.2.2.1 b hb) hv p2) h.1, h.2.1, eq_self h.2.2.1, eq_upd h.2.2.2 ?_⟩
      rw [h.2.2.2 b hb, put_eq (by omega)]
    · rw [if_neg c2, if_pos (badV_no c2)]
      exact h
  · rw [if_neg c, if_pos (bad_no c)]
    exact h
theorem pl_block (h : il_Inv to fr us se lv nx us1 se1) (p0 p1 p2 : Int32) : il_blockR p0 p1 p2 = im_blockR p0 p1 p2 ∧ il_Inv to fr (il_block to fr p0 p1 p2 (us, se, lv)).1 (il_block to fr p0 p1 p2 (us, se, lv)).2.1 (il_block to fr p0 p1 p2 (us, se, lv)).2.2 nx (im_blockU us1 p0 p1 p2) (im_blockS se1 p0 p1 p2) := by
  unfold il_blockR im_blockR il_block im_blockU im_blockS
  by_cases c : il_bad p0 = 0
  · obtain ⟨b, hb, rfl⟩ := il_bad_in c
    rw [if_pos c, if_neg (im_isB_nI hb), if_pos c, if_neg (im_isB_nI hb), if_neg (im_isB_nI hb)]
    refine ⟨rfl, ?_⟩
    by_cases c1 : p1 < 0
    · rw [if_pos c1, if_pos c1, if_pos c1]; exact h
    · rw [if_neg c1, if_neg c1, if_neg c1]
      by_cases c2 : 1048575 < p1
      · rw [if_pos c2, if_pos c2, if_pos c2]; exact h
      · rw [if_neg c2, if_neg c2, if_neg c2]
        by_cases c3 : p2 < 0
        · rw [if_pos c3, if_pos c3, if_pos c3]; exact h
        · rw [if_neg c3, if_neg c3, if_neg c3]
          by_cases c4 : p2 ≤ 1048575
          · rw [if_pos c4, if_pos c4, if_pos c4, il_nat_nI (i := b) (by omega)]
            refine ⟨change_G hb (fun i hi => b_small c1 (Int32.not_lt.mp c2) hi) (fun i hi => b_small c3 c4 hi) h.1, h.2.1, eq_upd h.2.2.1 rfl, eq_upd h.2.2.2 rfl⟩
          · rw [if_neg c4, if_neg c4, if_neg c4]; exact h
  · rw [if_neg c, if_pos (bad_no c), if_neg c, if_pos (bad_no c), if_pos (bad_no c)]
    exact ⟨rfl, h⟩
theorem pl_cutOff (h : il_Inv to fr us se lv nx us1 se1) (p0 : Int32) : il_cutOffR us se p0 (to, fr, lv) = im_cutOffR nx p0 ∧ il_Inv (il_cutOff us se p0 (to, fr, lv)).1 (il_cutOff us se p0 (to, fr, lv)).2.1 us se (il_cutOff us se p0 (to, fr, lv)).2.2 (im_cutOff nx p0) us1 se1 := by
  unfold il_cutOffR im_cutOffR il_cutOff im_cutOff
  by_cases c : il_bad p0 = 0
  · obtain ⟨b, hb, rfl⟩ := il_bad_in c
    rw [if_pos c, if_neg (im_isB_nI hb), if_pos c, if_neg (im_isB_nI hb), il_nat_nI (i := b) (by omega)]
    obtain ⟨g1, g2, g3⟩ := cut_all hb h.1 h.2.1
    exact ⟨g1, g2, g3, h.2.2.1, h.2.2.2⟩
  · rw [if_neg c, if_pos (bad_no c), if_neg c, if_pos (bad_no c)]
    exact ⟨rfl, h⟩
theorem pl_takeOver (h : il_Inv to fr us se lv nx us1 se1) (p0 p1 : Int32) : il_takeOverR us se p0 p1 (to, fr, lv) = im_takeOverR nx p0 p1 ∧ il_Inv (il_takeOver us se p0 p1 (to, fr, lv)).1 (il_takeOver us se p0 p1 (to, fr, lv)).2.1 us se (il_takeOver us se p0 p1 (to, fr, lv)).2.2 (im_takeOver nx p0 p1) us1 se1 := by
  unfold il_takeOverR im_takeOverR il_takeOver im_takeOver
  by_cases c : il_bad p0 = 0
  · obtain ⟨b, hb, rfl⟩ := il_bad_in c
    rw [if_pos c, if_neg (im_isB_nI hb), if_pos c, if_neg (im_isB_nI hb)]
    by_cases c2 : il_bad p1 = 0
    · obtain ⟨d, hd, rfl⟩ := il_bad_in c2
      rw [if_pos c2, if_neg (im_isB_nI hd), if_pos c2, if_neg (im_isB_nI hd)]
      by_cases c3 : nI b = nI d
      · rw [if_pos c3, if_pos c3, if_pos c3, if_pos c3]
        exact ⟨rfl, h⟩
      · rw [if_neg c3, if_neg c3, if_neg c3, if_neg c3, il_nat_nI (i := b) (by omega), il_nat_nI (i := d) (by omega)]
        obtain ⟨g1, g2, g3⟩ := tk_all hb hd (fun q => c3 (by rw [q])) h.1 h.2.1
        exact ⟨g1, g2, g3, h.2.2.1, h.2.2.2⟩
    · rw [if_neg c2, if_pos (bad_no c2), if_neg c2, if_pos (bad_no c2)]
      exact ⟨rfl, h⟩
  · rw [if_neg c, if_pos (bad_no c), if_neg c, if_pos (bad_no c)]
    exact ⟨rfl, h⟩
theorem pl_liveIn (h : il_Inv to fr us se lv nx us1 se1) (lv1 : il_F) (p0 : Int32) : il_liveIn lv p0 = im_liveIn nx us1 se1 lv1 p0 := q_liveIn h lv1 p0
theorem pl_liveOut (h : il_Inv to fr us se lv nx us1 se1) (lv1 : il_F) (p0 : Int32) : il_liveOut to lv p0 = im_liveOut nx us1 se1 lv1 p0 := q_liveOut h lv1 p0
theorem pl_liveBlocks (h : il_Inv to fr us se lv nx us1 se1) (lv1 : il_F) (p0 : Int32) : il_liveBlocks lv p0 = im_liveBlocks nx us1 se1 lv1 p0 := q_liveBlocks h lv1 p0
theorem pl_idle (h : il_Inv to fr us se lv nx us1 se1) (lv1 : il_F) : il_idle to se lv = im_idle nx us1 se1 lv1 := q_idle h lv1
theorem pl_press (h : il_Inv to fr us se lv nx us1 se1) (lv1 : il_F) : il_press lv = im_press nx us1 se1 lv1 := q_press h lv1
theorem pl_reach (h : il_Inv to fr us se lv nx us1 se1) (p0 p1 : Int32) : il_reach fr se p0 p1 = im_reach nx se1 p0 p1 := q_reach h p0 p1
theorem pl_crowd (h : il_Inv to fr us se lv nx us1 se1) (lv1 : il_F) : il_crowd lv = im_crowd nx us1 se1 lv1 := q_crowd h lv1
end OPS
end
section
/-! THE CLAIM OUT OF ONE WALK OF THE LAW'S BODY. Your part is whole_start (and what it stands on); all else here is the same for every law, but numbers. -/
def R_law : String := "IncrLivenessLaw"
def lw_P (b : Addr) (xs : List Int32) (args : Array Value) (s : State) : Prop := args = #[.ref b] ∧ s.IntsAt b xs ∧ xs.length ≤ 256 ∧ (Jvm.Cond.and given_1 narrow_1).before args s = true
def lw_Q (_ : Array Value) (s : State) (o : Outcome) (t : State) : Prop := o = .returned (some (.int 1)) ∧ Framed s o t [] 600000 7290000
def lw_Z (below : List Frame) (a : Array Value) (s : State) : State → Prop := fun t => ∃ o, t.status = .running ∧ Ended t below o ∧ lw_Q a s o t
/-- the law's own end, with 1 on the stack, nothing written that was there before, its room as the claim has it -/
theorem lw_ret {p : Program} {l : Launch} {e : Env} {s : State} {m : MethodId} {below : List Frame} {meth : Method} {c : Code} {b : Nat} (hx : p.tables.exec = Jvm.exec) (hb : c.code = code) (hr : meth.sig.returnType = ret) (hlocks : meth.locks = false) {pc : Nat} {H : Heap} {ls : Array Slot} (hdg : decode code pc = .ok (.ireturn, 1)) : W p l e room_1 s m #[Value.ref b] below meth c H [] 600000 7290000 (lw_Z below #[Value.ref b] s) (F0 m pc ls [.int 1]) := by
  intro T hT X
  obtain ⟨fs, hret, hrun, hended, hW, hframe⟩ := X.leave (v := some (.int 1)) (hlocks := hlocks) (fun h => by rw [hr] at h; cases h)
  have hmeth' : T.vm.method? m = some meth := X.method'
  refine ⟨T.setFrames fs, ?_, .returned (some (.int 1)), hrun, hended, rfl, ⟨_, rfl⟩, hW, hframe⟩
  jvm_step X.here [X.here.top, hx, hb, hdg, hmeth', hr, ret, narrow_b1]
  (try refine ⟨rfl, ?_⟩); (try refine ⟨rfl, ?_⟩)
  first | (intro acts; rw [hret _ acts rfl rfl rfl]) | rw [hret _ _ rfl rfl rfl]
  exact Steps.refl _
/-- what holds at the law's entry: the machine, the code, the tables' words (any of lw_tbl by 'hts w (by decide +kernel)'), the script of L ints xs at the cell b, what the Statement gives of the start (any of its parts by flat_of_before) -/
def lw_At (p : Program) (s : State) (m : MethodId) (meth : Method) (c : Code) (b L : Nat) (xs : Nat → Int32) : Prop :=
  p.tables.exec = Jvm.exec ∧ c.code = code ∧ meth.sig.returnType = ret ∧ c.maxLocals = 4 ∧ s.vm.findClass R_law = some m.cls ∧ (∀ w ∈ lw_tbl, w.before #[Value.ref b] s = true) ∧ va_X b L xs s s.heap ∧ b < s.heap.size ∧ meth.locks = false ∧ (Jvm.Cond.and given_1 narrow_1).before #[Value.ref b] s = true
end
section
/-! the law: its loop, and its start -/
section LAWR
variable {p : Program} {l : Launch} {e : Env} {R : Room} {s : State} {m : MethodId} {args : Array Value} {below : List Frame} {meth : Method} {c : Code} {H : Heap} {locs : List Loc} {cells slots : Nat} {Q : State → Prop}
variable {cc : ByteArray} {pc : Nat} {ls : Array Slot} {rest : List Value} {A : Nat → Prop} {H0 : Heap}
theorem il_sld (hexec : p.tables.exec = Jvm.exec) (hb : c.code = cc) {b L : Nat} {xs : Nat → Int32} (hX : va_X b L xs s H0) (hbl : b < H0.size) (hbA : ¬ A b) (hS : va_S A H0 H locs) {i : Int32} {k : Nat} (hi : i = nI k) (hk : k < L) (hL : L < 2 ^ 31) (hdg : decode cc pc = .ok (.iaload, 1))
    (kk : W p l e R s m args below meth c H locs cells slots Q (F0 m (pc + 1) ls (.int (xs k) :: rest))) : W p l e R s m args below meth c H locs cells slots Q (F0 m pc ls (.int i :: .ref b :: rest)) := by
  subst hi
  refine va_sld hexec hb hX hbl hbA hS (vp_in_nI hk hL) hdg ?_
  rw [nI_clamp (Nat.lt_trans hk hL)]
  exact kk
end LAWR
theorem il_lawin {L i : Nat} (hL : L ≤ 256) (hi : i ≤ L) (h : ¬ Int32.ofNat L - 4 < nI i) : i + 4 ≤ L := by
  have h1 : ¬ (nI L - nI 4).toInt < (nI i).toInt := fun q => h (Int32.lt_iff_toInt_lt.mpr q)
  rw [pk_sub_toInt (by omega) (by omega), nI_toInt (by omega)] at h1
  omega
set_option maxHeartbeats 8000000 in
set_option maxRecDepth 100000 in
theorem law_loop {p : Program} {e : Env} {s : State} {m : MethodId} {below : List Frame} {meth : Method} {c : Code} (l : Launch) {b L : Nat} {xs : Nat → Int32} (hL : L ≤ 256) (C0 : lw_At p s m meth c b L xs) {dC : Nat → ClassId} {dI : Nat → Nat → Nat} {x0 a1 a2 a3 a4 a5 y0 b1 b2 b3 b4 : Nat} {dx dy : ClassId} (hKx : va_K (dC, dI) vwCl [(dx, .int)] s) (hKy : va_K (dC, dI) vwCl [(dy, .int)] s) : ∀ (n i : Nat) (to fr us se lv nx us1 se1 lv1 : il_F), L + 1 ≤ i + n → i ≤ L → il_Inv to fr us se lv nx us1 se1 → ∀ (H : Heap) (locs : List Loc), va_P (dC, dI) vwCl (WX x0 a1 a2 a3 a4 a5 dx to fr us se lv ++ WY y0 b1 b2 b3 b4 dy nx us1 se1 lv1) H → va_D (fun q : Nat => s.heap.size ≤ q) (WX x0 a1 a2 a3 a4 a5 dx to fr us se lv ++ WY y0 b1 b2 b3 b4 dy nx us1 se1 lv1) → va_S (fun q : Nat => s.heap.size ≤ q) s.heap H locs → ∀ ls : Array Slot, lv_has ls 4 [(0, .ref b), (1, .ref x0), (2, .ref y0), (3, .int (nI i))] → W p l e room_1 s m #[Value.ref b] below meth c H locs 11 117 (lw_Z below #[Value.ref b] s) (F0 m 18 ls []) := by
  obtain ⟨hx, hb, hr, hml, hown, htsT, hX, hbl, hlocks, hgv⟩ := id C0
  have hts : ∀ w ∈ lw_all, w.before #[Value.ref b] s = true := fun w h => htsT w (lw_all_tbl h)
  have hb : c.code = cL_law := hb
  have hF : CallFix p m c cL_law 4 s #[Value.ref b] lw_all R_law := ⟨hx, hb, hml, hown, hts⟩
  have hA : ∀ q : Nat, s.heap.size ≤ q → (fun q : Nat => s.heap.size ≤ q) q := fun _ h => h
  have hbA : ¬ (fun q : Nat => s.heap.size ≤ q) b := Nat.not_le.mpr hbl
  intro n
  induction n with
  | zero =>
    intro i to fr us se lv nx us1 se1 lv1 h1 h2
    exact absurd h1 (by omega)
  | succ n ih =>
    intro i to fr us se lv nx us1 se1 lv1 hfu hi hI H locs hP hD hS ls hl
    refine lv_iload_n hx hb dL_law_18 rfl (lv_at hl 3 rfl) ?_
    refine lv_aload_n hx hb dL_law_19 rfl (lv_at hl 0 rfl) ?_
    refine va_slen hx hb hX hbl hbA hS dL_law_20 ?_
    refine lv_iconst (v := 4) hx hb dL_law_21 (by decide) ?_
    refine lv_isub hx hb dL_law_22 ?_
    refine lv_icmp_gt (tgt := 512) hx hb dL_law_23 (by decide) (fun _ => ?_) (fun c23 => ?_)
    · refine lv_iconst (v := 1) hx hb dL_law_512 (by decide) ?_
      refine va_forget (fun q hq => hS.2.2 q hq) ?_
      refine W.widen (k := 600000) (n := 7290000) (Nat.le_of_ble_eq_true rfl) (Nat.le_of_ble_eq_true rfl) ?_
      exact lw_ret hx hb hr hlocks dL_law_513
    have hi4 : i + 4 ≤ L := il_lawin hL hi c23
    refine lv_aload_n hx hb dL_law_26 rfl (lv_at hl 0 rfl) ?_
    refine lv_iload_n hx hb dL_law_27 rfl (lv_at hl 3 rfl) ?_
    refine il_sld (k := i) hx hb hX hbl hbA hS rfl (by omega) (by omega) dL_law_28 ?_
    refine lv_bipush (v := 15) hx hb dL_law_29 (by decide) ?_
    refine lv_iand hx hb dL_law_31 ?_
    obtain ⟨j, hj, ej⟩ := pk_andE (xs i) (m := 15) 4 (by decide)
    rw [ej]
    have hj : j < 16 := hj
    rcases (show j = 0 ∨ j = 1 ∨ j = 2 ∨ j = 3 ∨ j = 4 ∨ j = 5 ∨ j = 6 ∨ j = 7 ∨ j = 8 ∨ j = 9 ∨ j = 10 ∨ j = 11 ∨ j = 12 ∨ j = 13 ∨ j = 14 ∨ j = 15 by omega) with rfl | rfl | rfl | rfl | rfl | rfl | rfl | rfl | rfl | rfl | rfl | rfl | rfl | rfl | rfl | rfl
    · refine lv_tableIn (tgt := 104) (off := 72) hx hb dL_law_32 (by decide) (by decide) rfl (by decide) ?_
      refine lv_aload_n hx hb dL_law_104 rfl (lv_at hl 1 rfl) ?_
      refine lv_aload_n hx hb dL_law_105 rfl (lv_at hl 0 rfl) ?_
      refine lv_iload_n hx hb dL_law_106 rfl (lv_at hl 3 rfl) ?_
      refine lv_iconst (v := 1) hx hb dL_law_107 (by decide) ?_
      refine lv_iadd hx hb dL_law_108 ?_
      refine il_sld (k := i + 1) hx hb hX hbl hbA hS (nI_add i 1) (by omega) (by omega) dL_law_109 ?_
      refine lv_aload_n hx hb dL_law_110 rfl (lv_at hl 0 rfl) ?_
      refine lv_iload_n hx hb dL_law_111 rfl (lv_at hl 3 rfl) ?_
      refine lv_iconst (v := 2) hx hb dL_law_112 (by decide) ?_
      refine lv_iadd hx hb dL_law_113 ?_
      refine il_sld (k := i + 2) hx hb hX hbl hbA hS (nI_add i 2) (by omega) (by omega) dL_law_114 ?_
      refine lv_aload_n hx hb dL_law_115 rfl (lv_at hl 0 rfl) ?_
      refine lv_iload_n hx hb dL_law_116 rfl (lv_at hl 3 rfl) ?_
      refine lv_iconst (v := 3) hx hb dL_law_117 (by decide) ?_
      refine lv_iadd hx hb dL_law_118 ?_
      refine il_sld (k := i + 3) hx hb hX hbl hbA hS (nI_add i 3) (by omega) (by omega) dL_law_119 ?_
      refine il_callMi (ws := WX x0 a1 a2 a3 a4 a5 dx to fr us se lv) (wr := WY y0 b1 b2 b3 b4 dy nx us1 se1 lv1) (ws1 := WX x0 a1 a2 a3 a4 a5 dx ((il_arc us se (xs (i + 1)) (xs (i + 2)) (xs (i + 3)) (to, fr, lv)).1) ((il_arc us se (xs (i + 1)) (xs (i + 2)) (xs (i + 3)) (to, fr, lv)).2.1) us se ((il_arc us se (xs (i + 1)) (xs (i + 2)) (xs (i + 3)) (to, fr, lv)).2.2)) (As := [.int (xs (i + 1)), .int (xs (i + 2)), .int (xs (i + 3))]) (rest := []) (v := il_arcR to (xs (i + 1)) (xs (i + 2))) hF hKx hP hD hS hA [0, 1, 2, 3, 4, 5] [6, 7, 8, 9, 10] rfl rfl (by decide) (by decide) (by decide) (hP.sub [0, 1, 2, 3, 4, 5] rfl) 0 rfl rfl (metX0_arc l dC dI x0 a1 a2 a3 a4 a5 dx _ to fr us se lv (xs (i + 1)) (xs (i + 2)) (xs (i + 3))) (cwV 3 hts (lw_V q47 q48 q49 q20 q50) rfl rfl rfl (by decide +kernel) ⟨Nat.le_of_ble_eq_true rfl, Nat.le_of_ble_eq_true rfl⟩) rfl hl.1 (Nat.le_of_ble_eq_true rfl) dL_law_120 ⟨Nat.le_of_ble_eq_true rfl, Nat.le_of_ble_eq_true rfl⟩ rfl (fun H locs hP hD hS => ?_)
      have hP : va_P (dC, dI) vwCl (WX x0 a1 a2 a3 a4 a5 dx ((il_arc us se (xs (i + 1)) (xs (i + 2)) (xs (i + 3)) (to, fr, lv)).1) ((il_arc us se (xs (i + 1)) (xs (i + 2)) (xs (i + 3)) (to, fr, lv)).2.1) us se ((il_arc us se (xs (i + 1)) (xs (i + 2)) (xs (i + 3)) (to, fr, lv)).2.2) ++ WY y0 b1 b2 b3 b4 dy nx us1 se1 lv1) H := hP.sub [5, 6, 7, 8, 9, 10, 0, 1, 2, 3, 4] rfl
      have hD : va_D (fun q : Nat => s.heap.size ≤ q) (WX x0 a1 a2 a3 a4 a5 dx ((il_arc us se (xs (i + 1)) (xs (i + 2)) (xs (i + 3)) (to, fr, lv)).1) ((il_arc us se (xs (i + 1)) (xs (i + 2)) (xs (i + 3)) (to, fr, lv)).2.1) us se ((il_arc us se (xs (i + 1)) (xs (i + 2)) (xs (i + 3)) (to, fr, lv)).2.2) ++ WY y0 b1 b2 b3 b4 dy nx us1 se1 lv1) := hD.sub [5, 6, 7, 8, 9, 10, 0, 1, 2, 3, 4] (by decide) rfl
      refine lv_aload_n hx hb dL_law_123 rfl (lv_at hl 2 rfl) ?_
      refine lv_aload_n hx hb dL_law_124 rfl (lv_at hl 0 rfl) ?_
      refine lv_iload_n hx hb dL_law_125 rfl (lv_at hl 3 rfl) ?_
      refine lv_iconst (v := 1) hx hb dL_law_126 (by decide) ?_
      refine lv_iadd hx hb dL_law_127 ?_
      refine il_sld (k := i + 1) hx hb hX hbl hbA hS (nI_add i 1) (by omega) (by omega) dL_law_128 ?_
      refine lv_aload_n hx hb dL_law_129 rfl (lv_at hl 0 rfl) ?_
      refine lv_iload_n hx hb dL_law_130 rfl (lv_at hl 3 rfl) ?_
      refine lv_iconst (v := 2) hx hb dL_law_131 (by decide) ?_
      refine lv_iadd hx hb dL_law_132 ?_
      refine il_sld (k := i + 2) hx hb hX hbl hbA hS (nI_add i 2) (by omega) (by omega) dL_law_133 ?_
      refine lv_aload_n hx hb dL_law_134 rfl (lv_at hl 0 rfl) ?_
      refine lv_iload_n hx hb dL_law_135 rfl (lv_at hl 3 rfl) ?_
      refine lv_iconst (v := 3) hx hb dL_law_136 (by decide) ?_
      refine lv_iadd hx hb dL_law_137 ?_
      refine il_sld (k := i + 3) hx hb hX hbl hbA hS (nI_add i 3) (by omega) (by omega) dL_law_138 ?_
      refine il_callMi (ws := WY y0 b1 b2 b3 b4 dy nx us1 se1 lv1) (wr := WX x0 a1 a2 a3 a4 a5 dx ((il_arc us se (xs (i + 1)) (xs (i + 2)) (xs (i + 3)) (to, fr, lv)).1) ((il_arc us se (xs (i + 1)) (xs (i + 2)) (xs (i + 3)) (to, fr, lv)).2.1) us se ((il_arc us se (xs (i + 1)) (xs (i + 2)) (xs (i + 3)) (to, fr, lv)).2.2)) (ws1 := WY y0 b1 b2 b3 b4 dy (im_arc nx (xs (i + 1)) (xs (i + 2)) (xs (i + 3))) us1 se1 lv1) (As := [.int (xs (i + 1)), .int (xs (i + 2)), .int (xs (i + 3))]) (rest := [.int (il_arcR to (xs (i + 1)) (xs (i + 2)))]) (v := im_arcR nx (xs (i + 1)) (xs (i + 2))) hF hKy hP hD hS hA [6, 7, 8, 9, 10] [0, 1, 2, 3, 4, 5] rfl rfl (by decide) (by decide) (by decide) (hP.sub [6, 7, 8, 9, 10] rfl) 1 rfl rfl (metX1_arc l dC dI y0 b1 b2 b3 b4 dy _ nx us1 se1 lv1 (xs (i + 1)) (xs (i + 2)) (xs (i + 3))) (cwV 3 hts (lw_V q167 q168 q169 q21 q170) rfl rfl rfl (by decide +kernel) ⟨Nat.le_of_ble_eq_true rfl, Nat.le_of_ble_eq_true rfl⟩) rfl hl.1 (Nat.le_of_ble_eq_true rfl) dL_law_139 ⟨Nat.le_of_ble_eq_true rfl, Nat.le_of_ble_eq_true rfl⟩ rfl (fun H locs hP hD hS => ?_)
      have hP : va_P (dC, dI) vwCl (WX x0 a1 a2 a3 a4 a5 dx ((il_arc us se (xs (i + 1)) (xs (i + 2)) (xs (i + 3)) (to, fr, lv)).1) ((il_arc us se (xs (i + 1)) (xs (i + 2)) (xs (i + 3)) (to, fr, lv)).2.1) us se ((il_arc us se (xs (i + 1)) (xs (i + 2)) (xs (i + 3)) (to, fr, lv)).2.2) ++ WY y0 b1 b2 b3 b4 dy (im_arc nx (xs (i + 1)) (xs (i + 2)) (xs (i + 3))) us1 se1 lv1) H := hP
      have hD : va_D (fun q : Nat => s.heap.size ≤ q) (WX x0 a1 a2 a3 a4 a5 dx ((il_arc us se (xs (i + 1)) (xs (i + 2)) (xs (i + 3)) (to, fr, lv)).1) ((il_arc us se (xs (i + 1)) (xs (i + 2)) (xs (i + 3)) (to, fr, lv)).2.1) us se ((il_arc us se (xs (i + 1)) (xs (i + 2)) (xs (i + 3)) (to, fr, lv)).2.2) ++ WY y0 b1 b2 b3 b4 dy (im_arc nx (xs (i + 1)) (xs (i + 2)) (xs (i + 3))) us1 se1 lv1) := hD
      have hq := pl_arc hI (xs (i + 1)) (xs (i + 2)) (xs (i + 3))
      refine lv_icmp_eq (tgt := 506) hx hb dL_law_142 (by decide) (fun _ => ?_) (fun cq => absurd hq.1 cq)
      refine lv_iinc (v := nI (i + 4)) (lv' := [(3, .int (nI (i + 4))), (0, .ref b), (1, .ref x0), (2, .ref y0)]) hx hb dL_law_506 hl (k := 3) rfl (nI_add i 4) (by decide) rfl (fun ls hl => ?_)
      refine lv_goto (tgt := 18) hx hb dL_law_509 (by decide) ?_
      exact ih (i + 4) ((il_arc us se (xs (i + 1)) (xs (i + 2)) (xs (i + 3)) (to, fr, lv)).1) ((il_arc us se (xs (i + 1)) (xs (i + 2)) (xs (i + 3)) (to, fr, lv)).2.1) us se ((il_arc us se (xs (i + 1)) (xs (i + 2)) (xs (i + 3)) (to, fr, lv)).2.2) (im_arc nx (xs (i + 1)) (xs (i + 2)) (xs (i + 3))) us1 se1 lv1 (by omega) (by omega) hq.2 _ _ hP hD hS ls (lv_sub hl [1, 2, 3, 0] rfl)
    · refine lv_tableIn (tgt := 147) (off := 115) hx hb dL_law_32 (by decide) (by decide) rfl (by decide) ?_
      refine lv_aload_n hx hb dL_law_147 rfl (lv_at hl 1 rfl) ?_
      refine lv_aload_n hx hb dL_law_148 rfl (lv_at hl 0 rfl) ?_
      refine lv_iload_n hx hb dL_law_149 rfl (lv_at hl 3 rfl) ?_
      refine lv_iconst (v := 1) hx hb dL_law_150 (by decide) ?_
      refine lv_iadd hx hb dL_law_151 ?_
      refine il_sld (k := i + 1) hx hb hX hbl hbA hS (nI_add i 1) (by omega) (by omega) dL_law_152 ?_
      refine lv_aload_n hx hb dL_law_153 rfl (lv_at hl 0 rfl) ?_
      refine lv_iload_n hx hb dL_law_154 rfl (lv_at hl 3 rfl) ?_
      refine lv_iconst (v := 2) hx hb dL_law_155 (by decide) ?_
      refine lv_iadd hx hb dL_law_156 ?_
      refine il_sld (k := i + 2) hx hb hX hbl hbA hS (nI_add i 2) (by omega) (by omega) dL_law_157 ?_
      refine il_callR (ws := WX x0 a1 a2 a3 a4 a5 dx to fr us se lv) (As := [.int (xs (i + 1)), .int (xs (i + 2))]) (rest := []) (v := il_hasArc to (xs (i + 1)) (xs (i + 2))) hF hKx (hP.sub [0, 1, 2, 3, 4, 5] rfl) 0 rfl rfl (metX0_hasArc l dC dI x0 a1 a2 a3 a4 a5 dx to fr us se lv (xs (i + 1)) (xs (i + 2))) (cwV 2 hts (lw_V q84 q85 q86 q20 q87) rfl rfl rfl (by decide +kernel) ⟨Nat.le_of_ble_eq_true rfl, Nat.le_of_ble_eq_true rfl⟩) rfl hl.1 (Nat.le_of_ble_eq_true rfl) dL_law_158 ⟨Nat.le_of_ble_eq_true rfl, Nat.le_of_ble_eq_true rfl⟩ rfl ?_
      refine lv_aload_n hx hb dL_law_161 rfl (lv_at hl 2 rfl) ?_
      refine lv_aload_n hx hb dL_law_162 rfl (lv_at hl 0 rfl) ?_
      refine lv_iload_n hx hb dL_law_163 rfl (lv_at hl 3 rfl) ?_
      refine lv_iconst (v := 1) hx hb dL_law_164 (by decide) ?_
      refine lv_iadd hx hb dL_law_165 ?_
      refine il_sld (k := i + 1) hx hb hX hbl hbA hS (nI_add i 1) (by omega) (by omega) dL_law_166 ?_
      refine lv_aload_n hx hb dL_law_167 rfl (lv_at hl 0 rfl) ?_
      refine lv_iload_n hx hb dL_law_168 rfl (lv_at hl 3 rfl) ?_
      refine lv_iconst (v := 2) hx hb dL_law_169 (by decide) ?_
      refine lv_iadd hx hb dL_law_170 ?_
      refine il_sld (k := i + 2) hx hb hX hbl hbA hS (nI_add i 2) (by omega) (by omega) dL_law_171 ?_
      refine il_callR (ws := WY y0 b1 b2 b3 b4 dy nx us1 se1 lv1) (As := [.int (xs (i + 1)), .int (xs (i + 2))]) (rest := [.int (il_hasArc to (xs (i + 1)) (xs (i + 2)))]) (v := im_hasArc nx (xs (i + 1)) (xs (i + 2))) hF hKy (hP.sub [6, 7, 8, 9, 10] rfl) 1 rfl rfl (metX1_hasArc l dC dI y0 b1 b2 b3 b4 dy nx us1 se1 lv1 (xs (i + 1)) (xs (i + 2))) (cwV 2 hts (lw_V q175 q176 q177 q21 q178) rfl rfl rfl (by decide +kernel) ⟨Nat.le_of_ble_eq_true rfl, Nat.le_of_ble_eq_true rfl⟩) rfl hl.1 (Nat.le_of_ble_eq_true rfl) dL_law_172 ⟨Nat.le_of_ble_eq_true rfl, Nat.le_of_ble_eq_true rfl⟩ rfl ?_
      have hq := pl_hasArc hI (xs (i + 1)) (xs (i + 2))
      refine lv_icmp_eq (tgt := 506) hx hb dL_law_175 (by decide) (fun _ => ?_) (fun cq => absurd hq cq)
      refine lv_iinc (v := nI (i + 4)) (lv' := [(3, .int (nI (i + 4))), (0, .ref b), (1, .ref x0), (2, .ref y0)]) hx hb dL_law_506 hl (k := 3) rfl (nI_add i 4) (by decide) rfl (fun ls hl => ?_)
      refine lv_goto (tgt := 18) hx hb dL_law_509 (by decide) ?_
      exact ih (i + 4) to fr us se lv nx us1 se1 lv1 (by omega) (by omega) hI _ _ hP hD hS ls (lv_sub hl [1, 2, 3, 0] rfl)
    · refine lv_tableIn (tgt := 180) (off := 148) hx hb dL_law_32 (by decide) (by decide) rfl (by decide) ?_
      refine lv_aload_n hx hb dL_law_180 rfl (lv_at hl 1 rfl) ?_
      refine lv_aload_n hx hb dL_law_181 rfl (lv_at hl 0 rfl) ?_
      refine lv_iload_n hx hb dL_law_182 rfl (lv_at hl 3 rfl) ?_
      refine lv_iconst (v := 1) hx hb dL_law_183 (by decide) ?_
      refine lv_iadd hx hb dL_law_184 ?_
      refine il_sld (k := i + 1) hx hb hX hbl hbA hS (nI_add i 1) (by omega) (by omega) dL_law_185 ?_
      refine lv_aload_n hx hb dL_law_186 rfl (lv_at hl 0 rfl) ?_
      refine lv_iload_n hx hb dL_law_187 rfl (lv_at hl 3 rfl) ?_
      refine lv_iconst (v := 2) hx hb dL_law_188 (by decide) ?_
      refine lv_iadd hx hb dL_law_189 ?_
      refine il_sld (k := i + 2) hx hb hX hbl hbA hS (nI_add i 2) (by omega) (by omega) dL_law_190 ?_
      refine lv_aload_n hx hb dL_law_191 rfl (lv_at hl 0 rfl) ?_
      refine lv_iload_n hx hb dL_law_192 rfl (lv_at hl 3 rfl) ?_
      refine lv_iconst (v := 3) hx hb dL_law_193 (by decide) ?_
      refine lv_iadd hx hb dL_law_194 ?_
      refine il_sld (k := i + 3) hx hb hX hbl hbA hS (nI_add i 3) (by omega) (by omega) dL_law_195 ?_
      refine il_callMi (ws := WX x0 a1 a2 a3 a4 a5 dx to fr us se lv) (wr := WY y0 b1 b2 b3 b4 dy nx us1 se1 lv1) (ws1 := WX x0 a1 a2 a3 a4 a5 dx to fr ((il_use to fr (xs (i + 1)) (xs (i + 2)) (xs (i + 3)) (us, se, lv)).1) ((il_use to fr (xs (i + 1)) (xs (i + 2)) (xs (i + 3)) (us, se, lv)).2.1) ((il_use to fr (xs (i + 1)) (xs (i + 2)) (xs (i + 3)) (us, se, lv)).2.2)) (As := [.int (xs (i + 1)), .int (xs (i + 2)), .int (xs (i + 3))]) (rest := []) (v := il_digR us (xs (i + 1)) (xs (i + 2))) hF hKx hP hD hS hA [0, 1, 2, 3, 4, 5] [6, 7, 8, 9, 10] rfl rfl (by decide) (by decide) (by decide) (hP.sub [0, 1, 2, 3, 4, 5] rfl) 0 rfl rfl (metX0_use l dC dI x0 a1 a2 a3 a4 a5 dx _ to fr us se lv (xs (i + 1)) (xs (i + 2)) (xs (i + 3))) (cwV 3 hts (lw_V q88 q89 q90 q20 q91) rfl rfl rfl (by decide +kernel) ⟨Nat.le_of_ble_eq_true rfl, Nat.le_of_ble_eq_true rfl⟩) rfl hl.1 (Nat.le_of_ble_eq_true rfl) dL_law_196 ⟨Nat.le_of_ble_eq_true rfl, Nat.le_of_ble_eq_true rfl⟩ rfl (fun H locs hP hD hS => ?_)
      have hP : va_P (dC, dI) vwCl (WX x0 a1 a2 a3 a4 a5 dx to fr ((il_use to fr (xs (i + 1)) (xs (i + 2)) (xs (i + 3)) (us, se, lv)).1) ((il_use to fr (xs (i + 1)) (xs (i + 2)) (xs (i + 3)) (us, se, lv)).2.1) ((il_use to fr (xs (i + 1)) (xs (i + 2)) (xs (i + 3)) (us, se, lv)).2.2) ++ WY y0 b1 b2 b3 b4 dy nx us1 se1 lv1) H := hP.sub [5, 6, 7, 8, 9, 10, 0, 1, 2, 3, 4] rfl
      have hD : va_D (fun q : Nat => s.heap.size ≤ q) (WX x0 a1 a2 a3 a4 a5 dx to fr ((il_use to fr (xs (i + 1)) (xs (i + 2)) (xs (i + 3)) (us, se, lv)).1) ((il_use to fr (xs (i + 1)) (xs (i + 2)) (xs (i + 3)) (us, se, lv)).2.1) ((il_use to fr (xs (i + 1)) (xs (i + 2)) (xs (i + 3)) (us, se, lv)).2.2) ++ WY y0 b1 b2 b3 b4 dy nx us1 se1 lv1) := hD.sub [5, 6, 7, 8, 9, 10, 0, 1, 2, 3, 4] (by decide) rfl
      refine lv_aload_n hx hb dL_law_199 rfl (lv_at hl 2 rfl) ?_
      refine lv_aload_n hx hb dL_law_200 rfl (lv_at hl 0 rfl) ?_
      refine lv_iload_n hx hb dL_law_201 rfl (lv_at hl 3 rfl) ?_
      refine lv_iconst (v := 1) hx hb dL_law_202 (by decide) ?_
      refine lv_iadd hx hb dL_law_203 ?_
      refine il_sld (k := i + 1) hx hb hX hbl hbA hS (nI_add i 1) (by omega) (by omega) dL_law_204 ?_
      refine lv_aload_n hx hb dL_law_205 rfl (lv_at hl 0 rfl) ?_
      refine lv_iload_n hx hb dL_law_206 rfl (lv_at hl 3 rfl) ?_
      refine lv_iconst (v := 2) hx hb dL_law_207 (by decide) ?_
      refine lv_iadd hx hb dL_law_208 ?_
      refine il_sld (k := i + 2) hx hb hX hbl hbA hS (nI_add i 2) (by omega) (by omega) dL_law_209 ?_
      refine lv_aload_n hx hb dL_law_210 rfl (lv_at hl 0 rfl) ?_
      refine lv_iload_n hx hb dL_law_211 rfl (lv_at hl 3 rfl) ?_
      refine lv_iconst (v := 3) hx hb dL_law_212 (by decide) ?_
      refine lv_iadd hx hb dL_law_213 ?_
      refine il_sld (k := i + 3) hx hb hX hbl hbA hS (nI_add i 3) (by omega) (by omega) dL_law_214 ?_
      refine il_callMi (ws := WY y0 b1 b2 b3 b4 dy nx us1 se1 lv1) (wr := WX x0 a1 a2 a3 a4 a5 dx to fr ((il_use to fr (xs (i + 1)) (xs (i + 2)) (xs (i + 3)) (us, se, lv)).1) ((il_use to fr (xs (i + 1)) (xs (i + 2)) (xs (i + 3)) (us, se, lv)).2.1) ((il_use to fr (xs (i + 1)) (xs (i + 2)) (xs (i + 3)) (us, se, lv)).2.2)) (ws1 := WY y0 b1 b2 b3 b4 dy nx (im_use us1 (xs (i + 1)) (xs (i + 2)) (xs (i + 3))) se1 lv1) (As := [.int (xs (i + 1)), .int (xs (i + 2)), .int (xs (i + 3))]) (rest := [.int (il_digR us (xs (i + 1)) (xs (i + 2)))]) (v := im_useR us1 (xs (i + 1)) (xs (i + 2))) hF hKy hP hD hS hA [6, 7, 8, 9, 10] [0, 1, 2, 3, 4, 5] rfl rfl (by decide) (by decide) (by decide) (hP.sub [6, 7, 8, 9, 10] rfl) 1 rfl rfl (metX1_use l dC dI y0 b1 b2 b3 b4 dy _ nx us1 se1 lv1 (xs (i + 1)) (xs (i + 2)) (xs (i + 3))) (cwV 3 hts (lw_V q183 q184 q185 q21 q186) rfl rfl rfl (by decide +kernel) ⟨Nat.le_of_ble_eq_true rfl, Nat.le_of_ble_eq_true rfl⟩) rfl hl.1 (Nat.le_of_ble_eq_true rfl) dL_law_215 ⟨Nat.le_of_ble_eq_true rfl, Nat.le_of_ble_eq_true rfl⟩ rfl (fun H locs hP hD hS => ?_)
      have hP : va_P (dC, dI) vwCl (WX x0 a1 a2 a3 a4 a5 dx to fr ((il_use to fr (xs (i + 1)) (xs (i + 2)) (xs (i + 3)) (us, se, lv)).1) ((il_use to fr (xs (i + 1)) (xs (i + 2)) (xs (i + 3)) (us, se, lv)).2.1) ((il_use to fr (xs (i + 1)) (xs (i + 2)) (xs (i + 3)) (us, se, lv)).2.2) ++ WY y0 b1 b2 b3 b4 dy nx (im_use us1 (xs (i + 1)) (xs (i + 2)) (xs (i + 3))) se1 lv1) H := hP
      have hD : va_D (fun q : Nat => s.heap.size ≤ q) (WX x0 a1 a2 a3 a4 a5 dx to fr ((il_use to fr (xs (i + 1)) (xs (i + 2)) (xs (i + 3)) (us, se, lv)).1) ((il_use to fr (xs (i + 1)) (xs (i + 2)) (xs (i + 3)) (us, se, lv)).2.1) ((il_use to fr (xs (i + 1)) (xs (i + 2)) (xs (i + 3)) (us, se, lv)).2.2) ++ WY y0 b1 b2 b3 b4 dy nx (im_use us1 (xs (i + 1)) (xs (i + 2)) (xs (i + 3))) se1 lv1) := hD
      have hq := pl_use hI (xs (i + 1)) (xs (i + 2)) (xs (i + 3))
      refine lv_icmp_eq (tgt := 506) hx hb dL_law_218 (by decide) (fun _ => ?_) (fun cq => absurd hq.1 cq)
      refine lv_iinc (v := nI (i + 4)) (lv' := [(3, .int (nI (i + 4))), (0, .ref b), (1, .ref x0), (2, .ref y0)]) hx hb dL_law_506 hl (k := 3) rfl (nI_add i 4) (by decide) rfl (fun ls hl => ?_)
      refine lv_goto (tgt := 18) hx hb dL_law_509 (by decide) ?_
      exact ih (i + 4) to fr ((il_use to fr (xs (i + 1)) (xs (i + 2)) (xs (i + 3)) (us, se, lv)).1) ((il_use to fr (xs (i + 1)) (xs (i + 2)) (xs (i + 3)) (us, se, lv)).2.1) ((il_use to fr (xs (i + 1)) (xs (i + 2)) (xs (i + 3)) (us, se, lv)).2.2) nx (im_use us1 (xs (i + 1)) (xs (i + 2)) (xs (i + 3))) se1 lv1 (by omega) (by omega) hq.2 _ _ hP hD hS ls (lv_sub hl [1, 2, 3, 0] rfl)
    · refine lv_tableIn (tgt := 223) (off := 191) hx hb dL_law_32 (by decide) (by decide) rfl (by decide) ?_
      refine lv_aload_n hx hb dL_law_223 rfl (lv_at hl 1 rfl) ?_
      refine lv_aload_n hx hb dL_law_224 rfl (lv_at hl 0 rfl) ?_
      refine lv_iload_n hx hb dL_law_225 rfl (lv_at hl 3 rfl) ?_
      refine lv_iconst (v := 1) hx hb dL_law_226 (by decide) ?_
      refine lv_iadd hx hb dL_law_227 ?_
      refine il_sld (k := i + 1) hx hb hX hbl hbA hS (nI_add i 1) (by omega) (by omega) dL_law_228 ?_
      refine lv_aload_n hx hb dL_law_229 rfl (lv_at hl 0 rfl) ?_
      refine lv_iload_n hx hb dL_law_230 rfl (lv_at hl 3 rfl) ?_
      refine lv_iconst (v := 2) hx hb dL_law_231 (by decide) ?_
      refine lv_iadd hx hb dL_law_232 ?_
      refine il_sld (k := i + 2) hx hb hX hbl hbA hS (nI_add i 2) (by omega) (by omega) dL_law_233 ?_
      refine lv_aload_n hx hb dL_law_234 rfl (lv_at hl 0 rfl) ?_
      refine lv_iload_n hx hb dL_law_235 rfl (lv_at hl 3 rfl) ?_
      refine lv_iconst (v := 3) hx hb dL_law_236 (by decide) ?_
      refine lv_iadd hx hb dL_law_237 ?_
      refine il_sld (k := i + 3) hx hb hX hbl hbA hS (nI_add i 3) (by omega) (by omega) dL_law_238 ?_
      refine il_callMi (ws := WX x0 a1 a2 a3 a4 a5 dx to fr us se lv) (wr := WY y0 b1 b2 b3 b4 dy nx us1 se1 lv1) (ws1 := WX x0 a1 a2 a3 a4 a5 dx to fr ((il_set to fr (xs (i + 1)) (xs (i + 2)) (xs (i + 3)) (us, se, lv)).1) ((il_set to fr (xs (i + 1)) (xs (i + 2)) (xs (i + 3)) (us, se, lv)).2.1) ((il_set to fr (xs (i + 1)) (xs (i + 2)) (xs (i + 3)) (us, se, lv)).2.2)) (As := [.int (xs (i + 1)), .int (xs (i + 2)), .int (xs (i + 3))]) (rest := []) (v := il_digR se (xs (i + 1)) (xs (i + 2))) hF hKx hP hD hS hA [0, 1, 2, 3, 4, 5] [6, 7, 8, 9, 10] rfl rfl (by decide) (by decide) (by decide) (hP.sub [0, 1, 2, 3, 4, 5] rfl) 0 rfl rfl (metX0_set l dC dI x0 a1 a2 a3 a4 a5 dx _ to fr us se lv (xs (i + 1)) (xs (i + 2)) (xs (i + 3))) (cwV 3 hts (lw_V q100 q101 q102 q20 q103) rfl rfl rfl (by decide +kernel) ⟨Nat.le_of_ble_eq_true rfl, Nat.le_of_ble_eq_true rfl⟩) rfl hl.1 (Nat.le_of_ble_eq_true rfl) dL_law_239 ⟨Nat.le_of_ble_eq_true rfl, Nat.le_of_ble_eq_true rfl⟩ rfl (fun H locs hP hD hS => ?_)
      have hP : va_P (dC, dI) vwCl (WX x0 a1 a2 a3 a4 a5 dx to fr ((il_set to fr (xs (i + 1)) (xs (i + 2)) (xs (i + 3)) (us, se, lv)).1) ((il_set to fr (xs (i + 1)) (xs (i + 2)) (xs (i + 3)) (us, se, lv)).2.1) ((il_set to fr (xs (i + 1)) (xs (i + 2)) (xs (i + 3)) (us, se, lv)).2.2) ++ WY y0 b1 b2 b3 b4 dy nx us1 se1 lv1) H := hP.sub [5, 6, 7, 8, 9, 10, 0, 1, 2, 3, 4] rfl
      have hD : va_D (fun q : Nat => s.heap.size ≤ q) (WX x0 a1 a2 a3 a4 a5 dx to fr ((il_set to fr (xs (i + 1)) (xs (i + 2)) (xs (i + 3)) (us, se, lv)).1) ((il_set to fr (xs (i + 1)) (xs (i + 2)) (xs (i + 3)) (us, se, lv)).2.1) ((il_set to fr (xs (i + 1)) (xs (i + 2)) (xs (i + 3)) (us, se, lv)).2.2) ++ WY y0 b1 b2 b3 b4 dy nx us1 se1 lv1) := hD.sub [5, 6, 7, 8, 9, 10, 0, 1, 2, 3, 4] (by decide) rfl
      refine lv_aload_n hx hb dL_law_242 rfl (lv_at hl 2 rfl) ?_
      refine lv_aload_n hx hb dL_law_243 rfl (lv_at hl 0 rfl) ?_
      refine lv_iload_n hx hb dL_law_244 rfl (lv_at hl 3 rfl) ?_
      refine lv_iconst (v := 1) hx hb dL_law_245 (by decide) ?_
      refine lv_iadd hx hb dL_law_246 ?_
      refine il_sld (k := i + 1) hx hb hX hbl hbA hS (nI_add i 1) (by omega) (by omega) dL_law_247 ?_
      refine lv_aload_n hx hb dL_law_248 rfl (lv_at hl 0 rfl) ?_
      refine lv_iload_n hx hb dL_law_249 rfl (lv_at hl 3 rfl) ?_
      refine lv_iconst (v := 2) hx hb dL_law_250 (by decide) ?_
      refine lv_iadd hx hb dL_law_251 ?_
      refine il_sld (k := i + 2) hx hb hX hbl hbA hS (nI_add i 2) (by omega) (by omega) dL_law_252 ?_
      refine lv_aload_n hx hb dL_law_253 rfl (lv_at hl 0 rfl) ?_
      refine lv_iload_n hx hb dL_law_254 rfl (lv_at hl 3 rfl) ?_
      refine lv_iconst (v := 3) hx hb dL_law_255 (by decide) ?_
      refine lv_iadd hx hb dL_law_256 ?_
      refine il_sld (k := i + 3) hx hb hX hbl hbA hS (nI_add i 3) (by omega) (by omega) dL_law_257 ?_
      refine il_callMi (ws := WY y0 b1 b2 b3 b4 dy nx us1 se1 lv1) (wr := WX x0 a1 a2 a3 a4 a5 dx to fr ((il_set to fr (xs (i + 1)) (xs (i + 2)) (xs (i + 3)) (us, se, lv)).1) ((il_set to fr (xs (i + 1)) (xs (i + 2)) (xs (i + 3)) (us, se, lv)).2.1) ((il_set to fr (xs (i + 1)) (xs (i + 2)) (xs (i + 3)) (us, se, lv)).2.2)) (ws1 := WY y0 b1 b2 b3 b4 dy nx us1 (im_use se1 (xs (i + 1)) (xs (i + 2)) (xs (i + 3))) lv1) (As := [.int (xs (i + 1)), .int (xs (i + 2)), .int (xs (i + 3))]) (rest := [.int (il_digR se (xs (i + 1)) (xs (i + 2)))]) (v := im_useR se1 (xs (i + 1)) (xs (i + 2))) hF hKy hP hD hS hA [6, 7, 8, 9, 10] [0, 1, 2, 3, 4, 5] rfl rfl (by decide) (by decide) (by decide) (hP.sub [6, 7, 8, 9, 10] rfl) 1 rfl rfl (metX1_set l dC dI y0 b1 b2 b3 b4 dy _ nx us1 se1 lv1 (xs (i + 1)) (xs (i + 2)) (xs (i + 3))) (cwV 3 hts (lw_V q191 q192 q193 q21 q194) rfl rfl rfl (by decide +kernel) ⟨Nat.le_of_ble_eq_true rfl, Nat.le_of_ble_eq_true rfl⟩) rfl hl.1 (Nat.le_of_ble_eq_true rfl) dL_law_258 ⟨Nat.le_of_ble_eq_true rfl, Nat.le_of_ble_eq_true rfl⟩ rfl (fun H locs hP hD hS => ?_)
      have hP : va_P (dC, dI) vwCl (WX x0 a1 a2 a3 a4 a5 dx to fr ((il_set to fr (xs (i + 1)) (xs (i + 2)) (xs (i + 3)) (us, se, lv)).1) ((il_set to fr (xs (i + 1)) (xs (i + 2)) (xs (i + 3)) (us, se, lv)).2.1) ((il_set to fr (xs (i + 1)) (xs (i + 2)) (xs (i + 3)) (us, se, lv)).2.2) ++ WY y0 b1 b2 b3 b4 dy nx us1 (im_use se1 (xs (i + 1)) (xs (i + 2)) (xs (i + 3))) lv1) H := hP
      have hD : va_D (fun q : Nat => s.heap.size ≤ q) (WX x0 a1 a2 a3 a4 a5 dx to fr ((il_set to fr (xs (i + 1)) (xs (i + 2)) (xs (i + 3)) (us, se, lv)).1) ((il_set to fr (xs (i + 1)) (xs (i + 2)) (xs (i + 3)) (us, se, lv)).2.1) ((il_set to fr (xs (i + 1)) (xs (i + 2)) (xs (i + 3)) (us, se, lv)).2.2) ++ WY y0 b1 b2 b3 b4 dy nx us1 (im_use se1 (xs (i + 1)) (xs (i + 2)) (xs (i + 3))) lv1) := hD
      have hq := pl_set hI (xs (i + 1)) (xs (i + 2)) (xs (i + 3))
      refine lv_icmp_eq (tgt := 506) hx hb dL_law_261 (by decide) (fun _ => ?_) (fun cq => absurd hq.1 cq)
      refine lv_iinc (v := nI (i + 4)) (lv' := [(3, .int (nI (i + 4))), (0, .ref b), (1, .ref x0), (2, .ref y0)]) hx hb dL_law_506 hl (k := 3) rfl (nI_add i 4) (by decide) rfl (fun ls hl => ?_)
      refine lv_goto (tgt := 18) hx hb dL_law_509 (by decide) ?_
      exact ih (i + 4) to fr ((il_set to fr (xs (i + 1)) (xs (i + 2)) (xs (i + 3)) (us, se, lv)).1) ((il_set to fr (xs (i + 1)) (xs (i + 2)) (xs (i + 3)) (us, se, lv)).2.1) ((il_set to fr (xs (i + 1)) (xs (i + 2)) (xs (i + 3)) (us, se, lv)).2.2) nx us1 (im_use se1 (xs (i + 1)) (xs (i + 2)) (xs (i + 3))) lv1 (by omega) (by omega) hq.2 _ _ hP hD hS ls (lv_sub hl [1, 2, 3, 0] rfl)
    · refine lv_tableIn (tgt := 266) (off := 234) hx hb dL_law_32 (by decide) (by decide) rfl (by decide) ?_
      refine lv_aload_n hx hb dL_law_266 rfl (lv_at hl 1 rfl) ?_
      refine lv_aload_n hx hb dL_law_267 rfl (lv_at hl 0 rfl) ?_
      refine lv_iload_n hx hb dL_law_268 rfl (lv_at hl 3 rfl) ?_
      refine lv_iconst (v := 1) hx hb dL_law_269 (by decide) ?_
      refine lv_iadd hx hb dL_law_270 ?_
      refine il_sld (k := i + 1) hx hb hX hbl hbA hS (nI_add i 1) (by omega) (by omega) dL_law_271 ?_
      refine lv_aload_n hx hb dL_law_272 rfl (lv_at hl 0 rfl) ?_
      refine lv_iload_n hx hb dL_law_273 rfl (lv_at hl 3 rfl) ?_
      refine lv_iconst (v := 2) hx hb dL_law_274 (by decide) ?_
      refine lv_iadd hx hb dL_law_275 ?_
      refine il_sld (k := i + 2) hx hb hX hbl hbA hS (nI_add i 2) (by omega) (by omega) dL_law_276 ?_
      refine lv_aload_n hx hb dL_law_277 rfl (lv_at hl 0 rfl) ?_
      refine lv_iload_n hx hb dL_law_278 rfl (lv_at hl 3 rfl) ?_
      refine lv_iconst (v := 3) hx hb dL_law_279 (by decide) ?_
      refine lv_iadd hx hb dL_law_280 ?_
      refine il_sld (k := i + 3) hx hb hX hbl hbA hS (nI_add i 3) (by omega) (by omega) dL_law_281 ?_
      refine il_callMi (ws := WX x0 a1 a2 a3 a4 a5 dx to fr us se lv) (wr := WY y0 b1 b2 b3 b4 dy nx us1 se1 lv1) (ws1 := WX x0 a1 a2 a3 a4 a5 dx to fr ((il_block to fr (xs (i + 1)) (xs (i + 2)) (xs (i + 3)) (us, se, lv)).1) ((il_block to fr (xs (i + 1)) (xs (i + 2)) (xs (i + 3)) (us, se, lv)).2.1) ((il_block to fr (xs (i + 1)) (xs (i + 2)) (xs (i + 3)) (us, se, lv)).2.2)) (As := [.int (xs (i + 1)), .int (xs (i + 2)), .int (xs (i + 3))]) (rest := []) (v := il_blockR (xs (i + 1)) (xs (i + 2)) (xs (i + 3))) hF hKx hP hD hS hA [0, 1, 2, 3, 4, 5] [6, 7, 8, 9, 10] rfl rfl (by decide) (by decide) (by decide) (hP.sub [0, 1, 2, 3, 4, 5] rfl) 0 rfl rfl (metX0_block l dC dI x0 a1 a2 a3 a4 a5 dx _ to fr us se lv (xs (i + 1)) (xs (i + 2)) (xs (i + 3))) (cwV 3 hts (lw_V q104 q105 q106 q20 q107) rfl rfl rfl (by decide +kernel) ⟨Nat.le_of_ble_eq_true rfl, Nat.le_of_ble_eq_true rfl⟩) rfl hl.1 (Nat.le_of_ble_eq_true rfl) dL_law_282 ⟨Nat.le_of_ble_eq_true rfl, Nat.le_of_ble_eq_true rfl⟩ rfl (fun H locs hP hD hS => ?_)
      have hP : va_P (dC, dI) vwCl (WX x0 a1 a2 a3 a4 a5 dx to fr ((il_block to fr (xs (i + 1)) (xs (i + 2)) (xs (i + 3)) (us, se, lv)).1) ((il_block to fr (xs (i + 1)) (xs (i + 2)) (xs (i + 3)) (us, se, lv)).2.1) ((il_block to fr (xs (i + 1)) (xs (i + 2)) (xs (i + 3)) (us, se, lv)).2.2) ++ WY y0 b1 b2 b3 b4 dy nx us1 se1 lv1) H := hP.sub [5, 6, 7, 8, 9, 10, 0, 1, 2, 3, 4] rfl
      have hD : va_D (fun q : Nat => s.heap.size ≤ q) (WX x0 a1 a2 a3 a4 a5 dx to fr ((il_block to fr (xs (i + 1)) (xs (i + 2)) (xs (i + 3)) (us, se, lv)).1) ((il_block to fr (xs (i + 1)) (xs (i + 2)) (xs (i + 3)) (us, se, lv)).2.1) ((il_block to fr (xs (i + 1)) (xs (i + 2)) (xs (i + 3)) (us, se, lv)).2.2) ++ WY y0 b1 b2 b3 b4 dy nx us1 se1 lv1) := hD.sub [5, 6, 7, 8, 9, 10, 0, 1, 2, 3, 4] (by decide) rfl
      refine lv_aload_n hx hb dL_law_285 rfl (lv_at hl 2 rfl) ?_
      refine lv_aload_n hx hb dL_law_286 rfl (lv_at hl 0 rfl) ?_
      refine lv_iload_n hx hb dL_law_287 rfl (lv_at hl 3 rfl) ?_
      refine lv_iconst (v := 1) hx hb dL_law_288 (by decide) ?_
      refine lv_iadd hx hb dL_law_289 ?_
      refine il_sld (k := i + 1) hx hb hX hbl hbA hS (nI_add i 1) (by omega) (by omega) dL_law_290 ?_
      refine lv_aload_n hx hb dL_law_291 rfl (lv_at hl 0 rfl) ?_
      refine lv_iload_n hx hb dL_law_292 rfl (lv_at hl 3 rfl) ?_
      refine lv_iconst (v := 2) hx hb dL_law_293 (by decide) ?_
      refine lv_iadd hx hb dL_law_294 ?_
      refine il_sld (k := i + 2) hx hb hX hbl hbA hS (nI_add i 2) (by omega) (by omega) dL_law_295 ?_
      refine lv_aload_n hx hb dL_law_296 rfl (lv_at hl 0 rfl) ?_
      refine lv_iload_n hx hb dL_law_297 rfl (lv_at hl 3 rfl) ?_
      refine lv_iconst (v := 3) hx hb dL_law_298 (by decide) ?_
      refine lv_iadd hx hb dL_law_299 ?_
      refine il_sld (k := i + 3) hx hb hX hbl hbA hS (nI_add i 3) (by omega) (by omega) dL_law_300 ?_
      refine il_callMi (ws := WY y0 b1 b2 b3 b4 dy nx us1 se1 lv1) (wr := WX x0 a1 a2 a3 a4 a5 dx to fr ((il_block to fr (xs (i + 1)) (xs (i + 2)) (xs (i + 3)) (us, se, lv)).1) ((il_block to fr (xs (i + 1)) (xs (i + 2)) (xs (i + 3)) (us, se, lv)).2.1) ((il_block to fr (xs (i + 1)) (xs (i + 2)) (xs (i + 3)) (us, se, lv)).2.2)) (ws1 := WY y0 b1 b2 b3 b4 dy nx (im_blockU us1 (xs (i + 1)) (xs (i + 2)) (xs (i + 3))) (im_blockS se1 (xs (i + 1)) (xs (i + 2)) (xs (i + 3))) lv1) (As := [.int (xs (i + 1)), .int (xs (i + 2)), .int (xs (i + 3))]) (rest := [.int (il_blockR (xs (i + 1)) (xs (i + 2)) (xs (i + 3)))]) (v := im_blockR (xs (i + 1)) (xs (i + 2)) (xs (i + 3))) hF hKy hP hD hS hA [6, 7, 8, 9, 10] [0, 1, 2, 3, 4, 5] rfl rfl (by decide) (by decide) (by decide) (hP.sub [6, 7, 8, 9, 10] rfl) 1 rfl rfl (metX1_block l dC dI y0 b1 b2 b3 b4 dy _ nx us1 se1 lv1 (xs (i + 1)) (xs (i + 2)) (xs (i + 3))) (cwV 3 hts (lw_V q195 q196 q197 q21 q198) rfl rfl rfl (by decide +kernel) ⟨Nat.le_of_ble_eq_true rfl, Nat.le_of_ble_eq_true rfl⟩) rfl hl.1 (Nat.le_of_ble_eq_true rfl) dL_law_301 ⟨Nat.le_of_ble_eq_true rfl, Nat.le_of_ble_eq_true rfl⟩ rfl (fun H locs hP hD hS => ?_)
      have hP : va_P (dC, dI) vwCl (WX x0 a1 a2 a3 a4 a5 dx to fr ((il_block to fr (xs (i + 1)) (xs (i + 2)) (xs (i + 3)) (us, se, lv)).1) ((il_block to fr (xs (i + 1)) (xs (i + 2)) (xs (i + 3)) (us, se, lv)).2.1) ((il_block to fr (xs (i + 1)) (xs (i + 2)) (xs (i + 3)) (us, se, lv)).2.2) ++ WY y0 b1 b2 b3 b4 dy nx (im_blockU us1 (xs (i + 1)) (xs (i + 2)) (xs (i + 3))) (im_blockS se1 (xs (i + 1)) (xs (i + 2)) (xs (i + 3))) lv1) H := hP
      have hD : va_D (fun q : Nat => s.heap.size ≤ q) (WX x0 a1 a2 a3 a4 a5 dx to fr ((il_block to fr (xs (i + 1)) (xs (i + 2)) (xs (i + 3)) (us, se, lv)).1) ((il_block to fr (xs (i + 1)) (xs (i + 2)) (xs (i + 3)) (us, se, lv)).2.1) ((il_block to fr (xs (i + 1)) (xs (i + 2)) (xs (i + 3)) (us, se, lv)).2.2) ++ WY y0 b1 b2 b3 b4 dy nx (im_blockU us1 (xs (i + 1)) (xs (i + 2)) (xs (i + 3))) (im_blockS se1 (xs (i + 1)) (xs (i + 2)) (xs (i + 3))) lv1) := hD
      have hq := pl_block hI (xs (i + 1)) (xs (i + 2)) (xs (i + 3))
      refine lv_icmp_eq (tgt := 506) hx hb dL_law_304 (by decide) (fun _ => ?_) (fun cq => absurd hq.1 cq)
      refine lv_iinc (v := nI (i + 4)) (lv' := [(3, .int (nI (i + 4))), (0, .ref b), (1, .ref x0), (2, .ref y0)]) hx hb dL_law_506 hl (k := 3) rfl (nI_add i 4) (by decide) rfl (fun ls hl => ?_)
      refine lv_goto (tgt := 18) hx hb dL_law_509 (by decide) ?_
      exact ih (i + 4) to fr ((il_block to fr (xs (i + 1)) (xs (i + 2)) (xs (i + 3)) (us, se, lv)).1) ((il_block to fr (xs (i + 1)) (xs (i + 2)) (xs (i + 3)) (us, se, lv)).2.1) ((il_block to fr (xs (i + 1)) (xs (i + 2)) (xs (i + 3)) (us, se, lv)).2.2) nx (im_blockU us1 (xs (i + 1)) (xs (i + 2)) (xs (i + 3))) (im_blockS se1 (xs (i + 1)) (xs (i + 2)) (xs (i + 3))) lv1 (by omega) (by omega) hq.2 _ _ hP hD hS ls (lv_sub hl [1, 2, 3, 0] rfl)
    · refine lv_tableIn (tgt := 309) (off := 277) hx hb dL_law_32 (by decide) (by decide) rfl (by decide) ?_
      refine lv_aload_n hx hb dL_law_309 rfl (lv_at hl 1 rfl) ?_
      refine lv_aload_n hx hb dL_law_310 rfl (lv_at hl 0 rfl) ?_
      refine lv_iload_n hx hb dL_law_311 rfl (lv_at hl 3 rfl) ?_
      refine lv_iconst (v := 1) hx hb dL_law_312 (by decide) ?_
      refine lv_iadd hx hb dL_law_313 ?_
      refine il_sld (k := i + 1) hx hb hX hbl hbA hS (nI_add i 1) (by omega) (by omega) dL_law_314 ?_
      refine il_callMi (ws := WX x0 a1 a2 a3 a4 a5 dx to fr us se lv) (wr := WY y0 b1 b2 b3 b4 dy nx us1 se1 lv1) (ws1 := WX x0 a1 a2 a3 a4 a5 dx ((il_cutOff us se (xs (i + 1)) (to, fr, lv)).1) ((il_cutOff us se (xs (i + 1)) (to, fr, lv)).2.1) us se ((il_cutOff us se (xs (i + 1)) (to, fr, lv)).2.2)) (As := [.int (xs (i + 1))]) (rest := []) (v := il_cutOffR us se (xs (i + 1)) (to, fr, lv)) hF hKx hP hD hS hA [0, 1, 2, 3, 4, 5] [6, 7, 8, 9, 10] rfl rfl (by decide) (by decide) (by decide) (hP.sub [0, 1, 2, 3, 4, 5] rfl) 0 rfl rfl (metX0_cutOff l dC dI x0 a1 a2 a3 a4 a5 dx _ to fr us se lv (xs (i + 1))) (cwV 1 hts (lw_V q108 q109 q110 q20 q111) rfl rfl rfl (by decide +kernel) ⟨Nat.le_of_ble_eq_true rfl, Nat.le_of_ble_eq_true rfl⟩) rfl hl.1 (Nat.le_of_ble_eq_true rfl) dL_law_315 ⟨Nat.le_of_ble_eq_true rfl, Nat.le_of_ble_eq_true rfl⟩ rfl (fun H locs hP hD hS => ?_)
      have hP : va_P (dC, dI) vwCl (WX x0 a1 a2 a3 a4 a5 dx ((il_cutOff us se (xs (i + 1)) (to, fr, lv)).1) ((il_cutOff us se (xs (i + 1)) (to, fr, lv)).2.1) us se ((il_cutOff us se (xs (i + 1)) (to, fr, lv)).2.2) ++ WY y0 b1 b2 b3 b4 dy nx us1 se1 lv1) H := hP.sub [5, 6, 7, 8, 9, 10, 0, 1, 2, 3, 4] rfl
      have hD : va_D (fun q : Nat => s.heap.size ≤ q) (WX x0 a1 a2 a3 a4 a5 dx ((il_cutOff us se (xs (i + 1)) (to, fr, lv)).1) ((il_cutOff us se (xs (i + 1)) (to, fr, lv)).2.1) us se ((il_cutOff us se (xs (i + 1)) (to, fr, lv)).2.2) ++ WY y0 b1 b2 b3 b4 dy nx us1 se1 lv1) := hD.sub [5, 6, 7, 8, 9, 10, 0, 1, 2, 3, 4] (by decide) rfl
      refine lv_aload_n hx hb dL_law_318 rfl (lv_at hl 2 rfl) ?_
      refine lv_aload_n hx hb dL_law_319 rfl (lv_at hl 0 rfl) ?_
      refine lv_iload_n hx hb dL_law_320 rfl (lv_at hl 3 rfl) ?_
      refine lv_iconst (v := 1) hx hb dL_law_321 (by decide) ?_
      refine lv_iadd hx hb dL_law_322 ?_
      refine il_sld (k := i + 1) hx hb hX hbl hbA hS (nI_add i 1) (by omega) (by omega) dL_law_323 ?_
      refine il_callMi (ws := WY y0 b1 b2 b3 b4 dy nx us1 se1 lv1) (wr := WX x0 a1 a2 a3 a4 a5 dx ((il_cutOff us se (xs (i + 1)) (to, fr, lv)).1) ((il_cutOff us se (xs (i + 1)) (to, fr, lv)).2.1) us se ((il_cutOff us se (xs (i + 1)) (to, fr, lv)).2.2)) (ws1 := WY y0 b1 b2 b3 b4 dy (im_cutOff nx (xs (i + 1))) us1 se1 lv1) (As := [.int (xs (i + 1))]) (rest := [.int (il_cutOffR us se (xs (i + 1)) (to, fr, lv))]) (v := im_cutOffR nx (xs (i + 1))) hF hKy hP hD hS hA [6, 7, 8, 9, 10] [0, 1, 2, 3, 4, 5] rfl rfl (by decide) (by decide) (by decide) (hP.sub [6, 7, 8, 9, 10] rfl) 1 rfl rfl (metX1_cutOff l dC dI y0 b1 b2 b3 b4 dy _ nx us1 se1 lv1 (xs (i + 1))) (cwV 1 hts (lw_V q200 q201 q202 q21 q203) rfl rfl rfl (by decide +kernel) ⟨Nat.le_of_ble_eq_true rfl, Nat.le_of_ble_eq_true rfl⟩) rfl hl.1 (Nat.le_of_ble_eq_true rfl) dL_law_324 ⟨Nat.le_of_ble_eq_true rfl, Nat.le_of_ble_eq_true rfl⟩ rfl (fun H locs hP hD hS => ?_)
      have hP : va_P (dC, dI) vwCl (WX x0 a1 a2 a3 a4 a5 dx ((il_cutOff us se (xs (i + 1)) (to, fr, lv)).1) ((il_cutOff us se (xs (i + 1)) (to, fr, lv)).2.1) us se ((il_cutOff us se (xs (i + 1)) (to, fr, lv)).2.2) ++ WY y0 b1 b2 b3 b4 dy (im_cutOff nx (xs (i + 1))) us1 se1 lv1) H := hP
      have hD : va_D (fun q : Nat => s.heap.size ≤ q) (WX x0 a1 a2 a3 a4 a5 dx ((il_cutOff us se (xs (i + 1)) (to, fr, lv)).1) ((il_cutOff us se (xs (i + 1)) (to, fr, lv)).2.1) us se ((il_cutOff us se (xs (i + 1)) (to, fr, lv)).2.2) ++ WY y0 b1 b2 b3 b4 dy (im_cutOff nx (xs (i + 1))) us1 se1 lv1) := hD
      have hq := pl_cutOff hI (xs (i + 1))
      refine lv_icmp_eq (tgt := 506) hx hb dL_law_327 (by decide) (fun _ => ?_) (fun cq => absurd hq.1 cq)
      refine lv_iinc (v := nI (i + 4)) (lv' := [(3, .int (nI (i + 4))), (0, .ref b), (1, .ref x0), (2, .ref y0)]) hx hb dL_law_506 hl (k := 3) rfl (nI_add i 4) (by decide) rfl (fun ls hl => ?_)
      refine lv_goto (tgt := 18) hx hb dL_law_509 (by decide) ?_
      exact ih (i + 4) ((il_cutOff us se (xs (i + 1)) (to, fr, lv)).1) ((il_cutOff us se (xs (i + 1)) (to, fr, lv)).2.1) us se ((il_cutOff us se (xs (i + 1)) (to, fr, lv)).2.2) (im_cutOff nx (xs (i + 1))) us1 se1 lv1 (by omega) (by omega) hq.2 _ _ hP hD hS ls (lv_sub hl [1, 2, 3, 0] rfl)
    · refine lv_tableIn (tgt := 332) (off := 300) hx hb dL_law_32 (by decide) (by decide) rfl (by decide) ?_
      refine lv_aload_n hx hb dL_law_332 rfl (lv_at hl 1 rfl) ?_
      refine lv_aload_n hx hb dL_law_333 rfl (lv_at hl 0 rfl) ?_
      refine lv_iload_n hx hb dL_law_334 rfl (lv_at hl 3 rfl) ?_
      refine lv_iconst (v := 1) hx hb dL_law_335 (by decide) ?_
      refine lv_iadd hx hb dL_law_336 ?_
      refine il_sld (k := i + 1) hx hb hX hbl hbA hS (nI_add i 1) (by omega) (by omega) dL_law_337 ?_
      refine lv_aload_n hx hb dL_law_338 rfl (lv_at hl 0 rfl) ?_
      refine lv_iload_n hx hb dL_law_339 rfl (lv_at hl 3 rfl) ?_
      refine lv_iconst (v := 2) hx hb dL_law_340 (by decide) ?_
      refine lv_iadd hx hb dL_law_341 ?_
      refine il_sld (k := i + 2) hx hb hX hbl hbA hS (nI_add i 2) (by omega) (by omega) dL_law_342 ?_
      refine il_callMi (ws := WX x0 a1 a2 a3 a4 a5 dx to fr us se lv) (wr := WY y0 b1 b2 b3 b4 dy nx us1 se1 lv1) (ws1 := WX x0 a1 a2 a3 a4 a5 dx ((il_takeOver us se (xs (i + 1)) (xs (i + 2)) (to, fr, lv)).1) ((il_takeOver us se (xs (i + 1)) (xs (i + 2)) (to, fr, lv)).2.1) us se ((il_takeOver us se (xs (i + 1)) (xs (i + 2)) (to, fr, lv)).2.2)) (As := [.int (xs (i + 1)), .int (xs (i + 2))]) (rest := []) (v := il_takeOverR us se (xs (i + 1)) (xs (i + 2)) (to, fr, lv)) hF hKx hP hD hS hA [0, 1, 2, 3, 4, 5] [6, 7, 8, 9, 10] rfl rfl (by decide) (by decide) (by decide) (hP.sub [0, 1, 2, 3, 4, 5] rfl) 0 rfl rfl (metX0_takeOver l dC dI x0 a1 a2 a3 a4 a5 dx _ to fr us se lv (xs (i + 1)) (xs (i + 2))) (cwV 2 hts (lw_V q112 q113 q114 q20 q115) rfl rfl rfl (by decide +kernel) ⟨Nat.le_of_ble_eq_true rfl, Nat.le_of_ble_eq_true rfl⟩) rfl hl.1 (Nat.le_of_ble_eq_true rfl) dL_law_343 ⟨Nat.le_of_ble_eq_true rfl, Nat.le_of_ble_eq_true rfl⟩ rfl (fun H locs hP hD hS => ?_)
      have hP : va_P (dC, dI) vwCl (WX x0 a1 a2 a3 a4 a5 dx ((il_takeOver us se (xs (i + 1)) (xs (i + 2)) (to, fr, lv)).1) ((il_takeOver us se (xs (i + 1)) (xs (i + 2)) (to, fr, lv)).2.1) us se ((il_takeOver us se (xs (i + 1)) (xs (i + 2)) (to, fr, lv)).2.2) ++ WY y0 b1 b2 b3 b4 dy nx us1 se1 lv1) H := hP.sub [5, 6, 7, 8, 9, 10, 0, 1, 2, 3, 4] rfl
      have hD : va_D (fun q : Nat => s.heap.size ≤ q) (WX x0 a1 a2 a3 a4 a5 dx ((il_takeOver us se (xs (i + 1)) (xs (i + 2)) (to, fr, lv)).1) ((il_takeOver us se (xs (i + 1)) (xs (i + 2)) (to, fr, lv)).2.1) us se ((il_takeOver us se (xs (i + 1)) (xs (i + 2)) (to, fr, lv)).2.2) ++ WY y0 b1 b2 b3 b4 dy nx us1 se1 lv1) := hD.sub [5, 6, 7, 8, 9, 10, 0, 1, 2, 3, 4] (by decide) rfl
      refine lv_aload_n hx hb dL_law_346 rfl (lv_at hl 2 rfl) ?_
      refine lv_aload_n hx hb dL_law_347 rfl (lv_at hl 0 rfl) ?_
      refine lv_iload_n hx hb dL_law_348 rfl (lv_at hl 3 rfl) ?_
      refine lv_iconst (v := 1) hx hb dL_law_349 (by decide) ?_
      refine lv_iadd hx hb dL_law_350 ?_
      refine il_sld (k := i + 1) hx hb hX hbl hbA hS (nI_add i 1) (by omega) (by omega) dL_law_351 ?_
      refine lv_aload_n hx hb dL_law_352 rfl (lv_at hl 0 rfl) ?_
      refine lv_iload_n hx hb dL_law_353 rfl (lv_at hl 3 rfl) ?_
      refine lv_iconst (v := 2) hx hb dL_law_354 (by decide) ?_
      refine lv_iadd hx hb dL_law_355 ?_
      refine il_sld (k := i + 2) hx hb hX hbl hbA hS (nI_add i 2) (by omega) (by omega) dL_law_356 ?_
      refine il_callMi (ws := WY y0 b1 b2 b3 b4 dy nx us1 se1 lv1) (wr := WX x0 a1 a2 a3 a4 a5 dx ((il_takeOver us se (xs (i + 1)) (xs (i + 2)) (to, fr, lv)).1) ((il_takeOver us se (xs (i + 1)) (xs (i + 2)) (to, fr, lv)).2.1) us se ((il_takeOver us se (xs (i + 1)) (xs (i + 2)) (to, fr, lv)).2.2)) (ws1 := WY y0 b1 b2 b3 b4 dy (im_takeOver nx (xs (i + 1)) (xs (i + 2))) us1 se1 lv1) (As := [.int (xs (i + 1)), .int (xs (i + 2))]) (rest := [.int (il_takeOverR us se (xs (i + 1)) (xs (i + 2)) (to, fr, lv))]) (v := im_takeOverR nx (xs (i + 1)) (xs (i + 2))) hF hKy hP hD hS hA [6, 7, 8, 9, 10] [0, 1, 2, 3, 4, 5] rfl rfl (by decide) (by decide) (by decide) (hP.sub [6, 7, 8, 9, 10] rfl) 1 rfl rfl (metX1_takeOver l dC dI y0 b1 b2 b3 b4 dy _ nx us1 se1 lv1 (xs (i + 1)) (xs (i + 2))) (cwV 2 hts (lw_V q208 q209 q210 q21 q211) rfl rfl rfl (by decide +kernel) ⟨Nat.le_of_ble_eq_true rfl, Nat.le_of_ble_eq_true rfl⟩) rfl hl.1 (Nat.le_of_ble_eq_true rfl) dL_law_357 ⟨Nat.le_of_ble_eq_true rfl, Nat.le_of_ble_eq_true rfl⟩ rfl (fun H locs hP hD hS => ?_)
      have hP : va_P (dC, dI) vwCl (WX x0 a1 a2 a3 a4 a5 dx ((il_takeOver us se (xs (i + 1)) (xs (i + 2)) (to, fr, lv)).1) ((il_takeOver us se (xs (i + 1)) (xs (i + 2)) (to, fr, lv)).2.1) us se ((il_takeOver us se (xs (i + 1)) (xs (i + 2)) (to, fr, lv)).2.2) ++ WY y0 b1 b2 b3 b4 dy (im_takeOver nx (xs (i + 1)) (xs (i + 2))) us1 se1 lv1) H := hP
      have hD : va_D (fun q : Nat => s.heap.size ≤ q) (WX x0 a1 a2 a3 a4 a5 dx ((il_takeOver us se (xs (i + 1)) (xs (i + 2)) (to, fr, lv)).1) ((il_takeOver us se (xs (i + 1)) (xs (i + 2)) (to, fr, lv)).2.1) us se ((il_takeOver us se (xs (i + 1)) (xs (i + 2)) (to, fr, lv)).2.2) ++ WY y0 b1 b2 b3 b4 dy (im_takeOver nx (xs (i + 1)) (xs (i + 2))) us1 se1 lv1) := hD
      have hq := pl_takeOver hI (xs (i + 1)) (xs (i + 2))
      refine lv_icmp_eq (tgt := 506) hx hb dL_law_360 (by decide) (fun _ => ?_) (fun cq => absurd hq.1 cq)
      refine lv_iinc (v := nI (i + 4)) (lv' := [(3, .int (nI (i + 4))), (0, .ref b), (1, .ref x0), (2, .ref y0)]) hx hb dL_law_506 hl (k := 3) rfl (nI_add i 4) (by decide) rfl (fun ls hl => ?_)
      refine lv_goto (tgt := 18) hx hb dL_law_509 (by decide) ?_
      exact ih (i + 4) ((il_takeOver us se (xs (i + 1)) (xs (i + 2)) (to, fr, lv)).1) ((il_takeOver us se (xs (i + 1)) (xs (i + 2)) (to, fr, lv)).2.1) us se ((il_takeOver us se (xs (i + 1)) (xs (i + 2)) (to, fr, lv)).2.2) (im_takeOver nx (xs (i + 1)) (xs (i + 2))) us1 se1 lv1 (by omega) (by omega) hq.2 _ _ hP hD hS ls (lv_sub hl [1, 2, 3, 0] rfl)
    · refine lv_tableIn (tgt := 365) (off := 333) hx hb dL_law_32 (by decide) (by decide) rfl (by decide) ?_
      refine lv_aload_n hx hb dL_law_365 rfl (lv_at hl 1 rfl) ?_
      refine lv_aload_n hx hb dL_law_366 rfl (lv_at hl 0 rfl) ?_
      refine lv_iload_n hx hb dL_law_367 rfl (lv_at hl 3 rfl) ?_
      refine lv_iconst (v := 1) hx hb dL_law_368 (by decide) ?_
      refine lv_iadd hx hb dL_law_369 ?_
      refine il_sld (k := i + 1) hx hb hX hbl hbA hS (nI_add i 1) (by omega) (by omega) dL_law_370 ?_
      refine il_callR (ws := WX x0 a1 a2 a3 a4 a5 dx to fr us se lv) (As := [.int (xs (i + 1))]) (rest := []) (v := il_liveIn lv (xs (i + 1))) hF hKx (hP.sub [0, 1, 2, 3, 4, 5] rfl) 0 rfl rfl (metX0_liveIn l dC dI x0 a1 a2 a3 a4 a5 dx to fr us se lv (xs (i + 1))) (cwV 1 hts (lw_V q116 q117 q118 q20 q119) rfl rfl rfl (by decide +kernel) ⟨Nat.le_of_ble_eq_true rfl, Nat.le_of_ble_eq_true rfl⟩) rfl hl.1 (Nat.le_of_ble_eq_true rfl) dL_law_371 ⟨Nat.le_of_ble_eq_true rfl, Nat.le_of_ble_eq_true rfl⟩ rfl ?_
      refine lv_aload_n hx hb dL_law_374 rfl (lv_at hl 2 rfl) ?_
      refine lv_aload_n hx hb dL_law_375 rfl (lv_at hl 0 rfl) ?_
      refine lv_iload_n hx hb dL_law_376 rfl (lv_at hl 3 rfl) ?_
      refine lv_iconst (v := 1) hx hb dL_law_377 (by decide) ?_
      refine lv_iadd hx hb dL_law_378 ?_
      refine il_sld (k := i + 1) hx hb hX hbl hbA hS (nI_add i 1) (by omega) (by omega) dL_law_379 ?_
      refine il_callMi (ws := WY y0 b1 b2 b3 b4 dy nx us1 se1 lv1) (wr := WX x0 a1 a2 a3 a4 a5 dx to fr us se lv) (ws1 := WY y0 b1 b2 b3 b4 dy nx us1 se1 (im_liveInL nx us1 se1 lv1 (xs (i + 1)))) (As := [.int (xs (i + 1))]) (rest := [.int (il_liveIn lv (xs (i + 1)))]) (v := im_liveIn nx us1 se1 lv1 (xs (i + 1))) hF hKy hP hD hS hA [6, 7, 8, 9, 10] [0, 1, 2, 3, 4, 5] rfl rfl (by decide) (by decide) (by decide) (hP.sub [6, 7, 8, 9, 10] rfl) 1 rfl rfl (metX1_liveIn l dC dI y0 b1 b2 b3 b4 dy _ nx us1 se1 lv1 (xs (i + 1))) (cwV 1 hts (lw_V q212 q213 q214 q21 q215) rfl rfl rfl (by decide +kernel) ⟨Nat.le_of_ble_eq_true rfl, Nat.le_of_ble_eq_true rfl⟩) rfl hl.1 (Nat.le_of_ble_eq_true rfl) dL_law_380 ⟨Nat.le_of_ble_eq_true rfl, Nat.le_of_ble_eq_true rfl⟩ rfl (fun H locs hP hD hS => ?_)
      have hP : va_P (dC, dI) vwCl (WX x0 a1 a2 a3 a4 a5 dx to fr us se lv ++ WY y0 b1 b2 b3 b4 dy nx us1 se1 (im_liveInL nx us1 se1 lv1 (xs (i + 1)))) H := hP
      have hD : va_D (fun q : Nat => s.heap.size ≤ q) (WX x0 a1 a2 a3 a4 a5 dx to fr us se lv ++ WY y0 b1 b2 b3 b4 dy nx us1 se1 (im_liveInL nx us1 se1 lv1 (xs (i + 1)))) := hD
      have hq := pl_liveIn hI lv1 (xs (i + 1))
      refine lv_icmp_eq (tgt := 506) hx hb dL_law_383 (by decide) (fun _ => ?_) (fun cq => absurd hq cq)
      refine lv_iinc (v := nI (i + 4)) (lv' := [(3, .int (nI (i + 4))), (0, .ref b), (1, .ref x0), (2, .ref y0)]) hx hb dL_law_506 hl (k := 3) rfl (nI_add i 4) (by decide) rfl (fun ls hl => ?_)
      refine lv_goto (tgt := 18) hx hb dL_law_509 (by decide) ?_
      exact ih (i + 4) to fr us se lv nx us1 se1 (im_liveInL nx us1 se1 lv1 (xs (i + 1))) (by omega) (by omega) hI _ _ hP hD hS ls (lv_sub hl [1, 2, 3, 0] rfl)
    · refine lv_tableIn (tgt := 388) (off := 356) hx hb dL_law_32 (by decide) (by decide) rfl (by decide) ?_
      refine lv_aload_n hx hb dL_law_388 rfl (lv_at hl 1 rfl) ?_
      refine lv_aload_n hx hb dL_law_389 rfl (lv_at hl 0 rfl) ?_
      refine lv_iload_n hx hb dL_law_390 rfl (lv_at hl 3 rfl) ?_
      refine lv_iconst (v := 1) hx hb dL_law_391 (by decide) ?_
      refine lv_iadd hx hb dL_law_392 ?_
      refine il_sld (k := i + 1) hx hb hX hbl hbA hS (nI_add i 1) (by omega) (by omega) dL_law_393 ?_
      refine il_callR (ws := WX x0 a1 a2 a3 a4 a5 dx to fr us se lv) (As := [.int (xs (i + 1))]) (rest := []) (v := il_liveOut to lv (xs (i + 1))) hF hKx (hP.sub [0, 1, 2, 3, 4, 5] rfl) 0 rfl rfl (metX0_liveOut l dC dI x0 a1 a2 a3 a4 a5 dx to fr us se lv (xs (i + 1))) (cwV 1 hts (lw_V q120 q121 q122 q20 q123) rfl rfl rfl (by decide +kernel) ⟨Nat.le_of_ble_eq_true rfl, Nat.le_of_ble_eq_true rfl⟩) rfl hl.1 (Nat.le_of_ble_eq_true rfl) dL_law_394 ⟨Nat.le_of_ble_eq_true rfl, Nat.le_of_ble_eq_true rfl⟩ rfl ?_
      refine lv_aload_n hx hb dL_law_397 rfl (lv_at hl 2 rfl) ?_
      refine lv_aload_n hx hb dL_law_398 rfl (lv_at hl 0 rfl) ?_
      refine lv_iload_n hx hb dL_law_399 rfl (lv_at hl 3 rfl) ?_
      refine lv_iconst (v := 1) hx hb dL_law_400 (by decide) ?_
      refine lv_iadd hx hb dL_law_401 ?_
      refine il_sld (k := i + 1) hx hb hX hbl hbA hS (nI_add i 1) (by omega) (by omega) dL_law_402 ?_
      refine il_callMi (ws := WY y0 b1 b2 b3 b4 dy nx us1 se1 lv1) (wr := WX x0 a1 a2 a3 a4 a5 dx to fr us se lv) (ws1 := WY y0 b1 b2 b3 b4 dy nx us1 se1 (im_liveInL nx us1 se1 lv1 (xs (i + 1)))) (As := [.int (xs (i + 1))]) (rest := [.int (il_liveOut to lv (xs (i + 1)))]) (v := im_liveOut nx us1 se1 lv1 (xs (i + 1))) hF hKy hP hD hS hA [6, 7, 8, 9, 10] [0, 1, 2, 3, 4, 5] rfl rfl (by decide) (by decide) (by decide) (hP.sub [6, 7, 8, 9, 10] rfl) 1 rfl rfl (metX1_liveOut l dC dI y0 b1 b2 b3 b4 dy _ nx us1 se1 lv1 (xs (i + 1))) (cwV 1 hts (lw_V q224 q225 q226 q21 q227) rfl rfl rfl (by decide +kernel) ⟨Nat.le_of_ble_eq_true rfl, Nat.le_of_ble_eq_true rfl⟩) rfl hl.1 (Nat.le_of_ble_eq_true rfl) dL_law_403 ⟨Nat.le_of_ble_eq_true rfl, Nat.le_of_ble_eq_true rfl⟩ rfl (fun H locs hP hD hS => ?_)
      have hP : va_P (dC, dI) vwCl (WX x0 a1 a2 a3 a4 a5 dx to fr us se lv ++ WY y0 b1 b2 b3 b4 dy nx us1 se1 (im_liveInL nx us1 se1 lv1 (xs (i + 1)))) H := hP
      have hD : va_D (fun q : Nat => s.heap.size ≤ q) (WX x0 a1 a2 a3 a4 a5 dx to fr us se lv ++ WY y0 b1 b2 b3 b4 dy nx us1 se1 (im_liveInL nx us1 se1 lv1 (xs (i + 1)))) := hD
      have hq := pl_liveOut hI lv1 (xs (i + 1))
      refine lv_icmp_eq (tgt := 506) hx hb dL_law_406 (by decide) (fun _ => ?_) (fun cq => absurd hq cq)
      refine lv_iinc (v := nI (i + 4)) (lv' := [(3, .int (nI (i + 4))), (0, .ref b), (1, .ref x0), (2, .ref y0)]) hx hb dL_law_506 hl (k := 3) rfl (nI_add i 4) (by decide) rfl (fun ls hl => ?_)
      refine lv_goto (tgt := 18) hx hb dL_law_509 (by decide) ?_
      exact ih (i + 4) to fr us se lv nx us1 se1 (im_liveInL nx us1 se1 lv1 (xs (i + 1))) (by omega) (by omega) hI _ _ hP hD hS ls (lv_sub hl [1, 2, 3, 0] rfl)
    · refine lv_tableIn (tgt := 411) (off := 379) hx hb dL_law_32 (by decide) (by decide) rfl (by decide) ?_
      refine lv_aload_n hx hb dL_law_411 rfl (lv_at hl 1 rfl) ?_
      refine lv_aload_n hx hb dL_law_412 rfl (lv_at hl 0 rfl) ?_
      refine lv_iload_n hx hb dL_law_413 rfl (lv_at hl 3 rfl) ?_
      refine lv_iconst (v := 1) hx hb dL_law_414 (by decide) ?_
      refine lv_iadd hx hb dL_law_415 ?_
      refine il_sld (k := i + 1) hx hb hX hbl hbA hS (nI_add i 1) (by omega) (by omega) dL_law_416 ?_
      refine il_callR (ws := WX x0 a1 a2 a3 a4 a5 dx to fr us se lv) (As := [.int (xs (i + 1))]) (rest := []) (v := il_liveBlocks lv (xs (i + 1))) hF hKx (hP.sub [0, 1, 2, 3, 4, 5] rfl) 0 rfl rfl (metX0_liveBlocks l dC dI x0 a1 a2 a3 a4 a5 dx to fr us se lv (xs (i + 1))) (cwV 1 hts (lw_V q124 q125 q126 q20 q127) rfl rfl rfl (by decide +kernel) ⟨Nat.le_of_ble_eq_true rfl, Nat.le_of_ble_eq_true rfl⟩) rfl hl.1 (Nat.le_of_ble_eq_true rfl) dL_law_417 ⟨Nat.le_of_ble_eq_true rfl, Nat.le_of_ble_eq_true rfl⟩ rfl ?_
      refine lv_aload_n hx hb dL_law_420 rfl (lv_at hl 2 rfl) ?_
      refine lv_aload_n hx hb dL_law_421 rfl (lv_at hl 0 rfl) ?_
      refine lv_iload_n hx hb dL_law_422 rfl (lv_at hl 3 rfl) ?_
      refine lv_iconst (v := 1) hx hb dL_law_423 (by decide) ?_
      refine lv_iadd hx hb dL_law_424 ?_
      refine il_sld (k := i + 1) hx hb hX hbl hbA hS (nI_add i 1) (by omega) (by omega) dL_law_425 ?_
      refine il_callMi (ws := WY y0 b1 b2 b3 b4 dy nx us1 se1 lv1) (wr := WX x0 a1 a2 a3 a4 a5 dx to fr us se lv) (ws1 := WY y0 b1 b2 b3 b4 dy nx us1 se1 (im_liveBlocksL nx us1 se1 lv1 (xs (i + 1)))) (As := [.int (xs (i + 1))]) (rest := [.int (il_liveBlocks lv (xs (i + 1)))]) (v := im_liveBlocks nx us1 se1 lv1 (xs (i + 1))) hF hKy hP hD hS hA [6, 7, 8, 9, 10] [0, 1, 2, 3, 4, 5] rfl rfl (by decide) (by decide) (by decide) (hP.sub [6, 7, 8, 9, 10] rfl) 1 rfl rfl (metX1_liveBlocks l dC dI y0 b1 b2 b3 b4 dy _ nx us1 se1 lv1 (xs (i + 1))) (cwV 1 hts (lw_V q228 q229 q230 q21 q231) rfl rfl rfl (by decide +kernel) ⟨Nat.le_of_ble_eq_true rfl, Nat.le_of_ble_eq_true rfl⟩) rfl hl.1 (Nat.le_of_ble_eq_true rfl) dL_law_426 ⟨Nat.le_of_ble_eq_true rfl, Nat.le_of_ble_eq_true rfl⟩ rfl (fun H locs hP hD hS => ?_)
      have hP : va_P (dC, dI) vwCl (WX x0 a1 a2 a3 a4 a5 dx to fr us se lv ++ WY y0 b1 b2 b3 b4 dy nx us1 se1 (im_liveBlocksL nx us1 se1 lv1 (xs (i + 1)))) H := hP
      have hD : va_D (fun q : Nat => s.heap.size ≤ q) (WX x0 a1 a2 a3 a4 a5 dx to fr us se lv ++ WY y0 b1 b2 b3 b4 dy nx us1 se1 (im_liveBlocksL nx us1 se1 lv1 (xs (i + 1)))) := hD
      have hq := pl_liveBlocks hI lv1 (xs (i + 1))
      refine lv_icmp_eq (tgt := 506) hx hb dL_law_429 (by decide) (fun _ => ?_) (fun cq => absurd hq cq)
      refine lv_iinc (v := nI (i + 4)) (lv' := [(3, .int (nI (i + 4))), (0, .ref b), (1, .ref x0), (2, .ref y0)]) hx hb dL_law_506 hl (k := 3) rfl (nI_add i 4) (by decide) rfl (fun ls hl => ?_)
      refine lv_goto (tgt := 18) hx hb dL_law_509 (by decide) ?_
      exact ih (i + 4) to fr us se lv nx us1 se1 (im_liveBlocksL nx us1 se1 lv1 (xs (i + 1))) (by omega) (by omega) hI _ _ hP hD hS ls (lv_sub hl [1, 2, 3, 0] rfl)
    · refine lv_tableIn (tgt := 434) (off := 402) hx hb dL_law_32 (by decide) (by decide) rfl (by decide) ?_
      refine lv_aload_n hx hb dL_law_434 rfl (lv_at hl 1 rfl) ?_
      refine il_callR (ws := WX x0 a1 a2 a3 a4 a5 dx to fr us se lv) (As := []) (rest := []) (v := il_idle to se lv) hF hKx (hP.sub [0, 1, 2, 3, 4, 5] rfl) 0 rfl rfl (metX0_idleSets l dC dI x0 a1 a2 a3 a4 a5 dx to fr us se lv) (cwV 0 hts (lw_V q128 q129 q130 q20 q131) rfl rfl rfl (by decide +kernel) ⟨Nat.le_of_ble_eq_true rfl, Nat.le_of_ble_eq_true rfl⟩) rfl hl.1 (Nat.le_of_ble_eq_true rfl) dL_law_435 ⟨Nat.le_of_ble_eq_true rfl, Nat.le_of_ble_eq_true rfl⟩ rfl ?_
      refine lv_aload_n hx hb dL_law_438 rfl (lv_at hl 2 rfl) ?_
      refine il_callMi (ws := WY y0 b1 b2 b3 b4 dy nx us1 se1 lv1) (wr := WX x0 a1 a2 a3 a4 a5 dx to fr us se lv) (ws1 := WY y0 b1 b2 b3 b4 dy nx us1 se1 (im_spread nx us1 se1 lv1)) (As := []) (rest := [.int (il_idle to se lv)]) (v := im_idle nx us1 se1 lv1) hF hKy hP hD hS hA [6, 7, 8, 9, 10] [0, 1, 2, 3, 4, 5] rfl rfl (by decide) (by decide) (by decide) (hP.sub [6, 7, 8, 9, 10] rfl) 1 rfl rfl (metX1_idleSets l dC dI y0 b1 b2 b3 b4 dy _ nx us1 se1 lv1) (cwV 0 hts (lw_V q232 q233 q234 q21 q235) rfl rfl rfl (by decide +kernel) ⟨Nat.le_of_ble_eq_true rfl, Nat.le_of_ble_eq_true rfl⟩) rfl hl.1 (Nat.le_of_ble_eq_true rfl) dL_law_439 ⟨Nat.le_of_ble_eq_true rfl, Nat.le_of_ble_eq_true rfl⟩ rfl (fun H locs hP hD hS => ?_)
      have hP : va_P (dC, dI) vwCl (WX x0 a1 a2 a3 a4 a5 dx to fr us se lv ++ WY y0 b1 b2 b3 b4 dy nx us1 se1 (im_spread nx us1 se1 lv1)) H := hP
      have hD : va_D (fun q : Nat => s.heap.size ≤ q) (WX x0 a1 a2 a3 a4 a5 dx to fr us se lv ++ WY y0 b1 b2 b3 b4 dy nx us1 se1 (im_spread nx us1 se1 lv1)) := hD
      have hq := pl_idle hI lv1 
      refine lv_icmp_eq (tgt := 506) hx hb dL_law_442 (by decide) (fun _ => ?_) (fun cq => absurd hq cq)
      refine lv_iinc (v := nI (i + 4)) (lv' := [(3, .int (nI (i + 4))), (0, .ref b), (1, .ref x0), (2, .ref y0)]) hx hb dL_law_506 hl (k := 3) rfl (nI_add i 4) (by decide) rfl (fun ls hl => ?_)
      refine lv_goto (tgt := 18) hx hb dL_law_509 (by decide) ?_
      exact ih (i + 4) to fr us se lv nx us1 se1 (im_spread nx us1 se1 lv1) (by omega) (by omega) hI _ _ hP hD hS ls (lv_sub hl [1, 2, 3, 0] rfl)
    · refine lv_tableIn (tgt := 447) (off := 415) hx hb dL_law_32 (by decide) (by decide) rfl (by decide) ?_
      refine lv_aload_n hx hb dL_law_447 rfl (lv_at hl 1 rfl) ?_
      refine il_callR (ws := WX x0 a1 a2 a3 a4 a5 dx to fr us se lv) (As := []) (rest := []) (v := il_press lv) hF hKx (hP.sub [0, 1, 2, 3, 4, 5] rfl) 0 rfl rfl (metX0_pressure l dC dI x0 a1 a2 a3 a4 a5 dx to fr us se lv) (cwV 0 hts (lw_V q136 q137 q138 q20 q139) rfl rfl rfl (by decide +kernel) ⟨Nat.le_of_ble_eq_true rfl, Nat.le_of_ble_eq_true rfl⟩) rfl hl.1 (Nat.le_of_ble_eq_true rfl) dL_law_448 ⟨Nat.le_of_ble_eq_true rfl, Nat.le_of_ble_eq_true rfl⟩ rfl ?_
      refine lv_aload_n hx hb dL_law_451 rfl (lv_at hl 2 rfl) ?_
      refine il_callMi (ws := WY y0 b1 b2 b3 b4 dy nx us1 se1 lv1) (wr := WX x0 a1 a2 a3 a4 a5 dx to fr us se lv) (ws1 := WY y0 b1 b2 b3 b4 dy nx us1 se1 (im_spread nx us1 se1 lv1)) (As := []) (rest := [.int (il_press lv)]) (v := im_press nx us1 se1 lv1) hF hKy hP hD hS hA [6, 7, 8, 9, 10] [0, 1, 2, 3, 4, 5] rfl rfl (by decide) (by decide) (by decide) (hP.sub [6, 7, 8, 9, 10] rfl) 1 rfl rfl (metX1_pressure l dC dI y0 b1 b2 b3 b4 dy _ nx us1 se1 lv1) (cwV 0 hts (lw_V q236 q237 q238 q21 q239) rfl rfl rfl (by decide +kernel) ⟨Nat.le_of_ble_eq_true rfl, Nat.le_of_ble_eq_true rfl⟩) rfl hl.1 (Nat.le_of_ble_eq_true rfl) dL_law_452 ⟨Nat.le_of_ble_eq_true rfl, Nat.le_of_ble_eq_true rfl⟩ rfl (fun H locs hP hD hS => ?_)
      have hP : va_P (dC, dI) vwCl (WX x0 a1 a2 a3 a4 a5 dx to fr us se lv ++ WY y0 b1 b2 b3 b4 dy nx us1 se1 (im_spread nx us1 se1 lv1)) H := hP
      have hD : va_D (fun q : Nat => s.heap.size ≤ q) (WX x0 a1 a2 a3 a4 a5 dx to fr us se lv ++ WY y0 b1 b2 b3 b4 dy nx us1 se1 (im_spread nx us1 se1 lv1)) := hD
      have hq := pl_press hI lv1 
      refine lv_icmp_eq (tgt := 506) hx hb dL_law_455 (by decide) (fun _ => ?_) (fun cq => absurd hq cq)
      refine lv_iinc (v := nI (i + 4)) (lv' := [(3, .int (nI (i + 4))), (0, .ref b), (1, .ref x0), (2, .ref y0)]) hx hb dL_law_506 hl (k := 3) rfl (nI_add i 4) (by decide) rfl (fun ls hl => ?_)
      refine lv_goto (tgt := 18) hx hb dL_law_509 (by decide) ?_
      exact ih (i + 4) to fr us se lv nx us1 se1 (im_spread nx us1 se1 lv1) (by omega) (by omega) hI _ _ hP hD hS ls (lv_sub hl [1, 2, 3, 0] rfl)
    · refine lv_tableIn (tgt := 460) (off := 428) hx hb dL_law_32 (by decide) (by decide) rfl (by decide) ?_
      refine lv_aload_n hx hb dL_law_460 rfl (lv_at hl 1 rfl) ?_
      refine lv_aload_n hx hb dL_law_461 rfl (lv_at hl 0 rfl) ?_
      refine lv_iload_n hx hb dL_law_462 rfl (lv_at hl 3 rfl) ?_
      refine lv_iconst (v := 1) hx hb dL_law_463 (by decide) ?_
      refine lv_iadd hx hb dL_law_464 ?_
      refine il_sld (k := i + 1) hx hb hX hbl hbA hS (nI_add i 1) (by omega) (by omega) dL_law_465 ?_
      refine lv_aload_n hx hb dL_law_466 rfl (lv_at hl 0 rfl) ?_
      refine lv_iload_n hx hb dL_law_467 rfl (lv_at hl 3 rfl) ?_
      refine lv_iconst (v := 2) hx hb dL_law_468 (by decide) ?_
      refine lv_iadd hx hb dL_law_469 ?_
      refine il_sld (k := i + 2) hx hb hX hbl hbA hS (nI_add i 2) (by omega) (by omega) dL_law_470 ?_
      refine il_callR (ws := WX x0 a1 a2 a3 a4 a5 dx to fr us se lv) (As := [.int (xs (i + 1)), .int (xs (i + 2))]) (rest := []) (v := il_reach fr se (xs (i + 1)) (xs (i + 2))) hF hKx (hP.sub [0, 1, 2, 3, 4, 5] rfl) 0 rfl rfl (metX0_reaching l dC dI x0 a1 a2 a3 a4 a5 dx to fr us se lv (xs (i + 1)) (xs (i + 2))) (cwV 2 hts (lw_V q140 q141 q142 q20 q143) rfl rfl rfl (by decide +kernel) ⟨Nat.le_of_ble_eq_true rfl, Nat.le_of_ble_eq_true rfl⟩) rfl hl.1 (Nat.le_of_ble_eq_true rfl) dL_law_471 ⟨Nat.le_of_ble_eq_true rfl, Nat.le_of_ble_eq_true rfl⟩ rfl ?_
      refine lv_aload_n hx hb dL_law_474 rfl (lv_at hl 2 rfl) ?_
      refine lv_aload_n hx hb dL_law_475 rfl (lv_at hl 0 rfl) ?_
      refine lv_iload_n hx hb dL_law_476 rfl (lv_at hl 3 rfl) ?_
      refine lv_iconst (v := 1) hx hb dL_law_477 (by decide) ?_
      refine lv_iadd hx hb dL_law_478 ?_
      refine il_sld (k := i + 1) hx hb hX hbl hbA hS (nI_add i 1) (by omega) (by omega) dL_law_479 ?_
      refine lv_aload_n hx hb dL_law_480 rfl (lv_at hl 0 rfl) ?_
      refine lv_iload_n hx hb dL_law_481 rfl (lv_at hl 3 rfl) ?_
      refine lv_iconst (v := 2) hx hb dL_law_482 (by decide) ?_
      refine lv_iadd hx hb dL_law_483 ?_
      refine il_sld (k := i + 2) hx hb hX hbl hbA hS (nI_add i 2) (by omega) (by omega) dL_law_484 ?_
      refine il_callR (ws := WY y0 b1 b2 b3 b4 dy nx us1 se1 lv1) (As := [.int (xs (i + 1)), .int (xs (i + 2))]) (rest := [.int (il_reach fr se (xs (i + 1)) (xs (i + 2)))]) (v := im_reach nx se1 (xs (i + 1)) (xs (i + 2))) hF hKy (hP.sub [6, 7, 8, 9, 10] rfl) 1 rfl rfl (metX1_reaching l dC dI y0 b1 b2 b3 b4 dy nx us1 se1 lv1 (xs (i + 1)) (xs (i + 2))) (cwV 2 hts (lw_V q240 q241 q242 q21 q243) rfl rfl rfl (by decide +kernel) ⟨Nat.le_of_ble_eq_true rfl, Nat.le_of_ble_eq_true rfl⟩) rfl hl.1 (Nat.le_of_ble_eq_true rfl) dL_law_485 ⟨Nat.le_of_ble_eq_true rfl, Nat.le_of_ble_eq_true rfl⟩ rfl ?_
      have hq := pl_reach hI (xs (i + 1)) (xs (i + 2))
      refine lv_icmp_eq (tgt := 506) hx hb dL_law_488 (by decide) (fun _ => ?_) (fun cq => absurd hq cq)
      refine lv_iinc (v := nI (i + 4)) (lv' := [(3, .int (nI (i + 4))), (0, .ref b), (1, .ref x0), (2, .ref y0)]) hx hb dL_law_506 hl (k := 3) rfl (nI_add i 4) (by decide) rfl (fun ls hl => ?_)
      refine lv_goto (tgt := 18) hx hb dL_law_509 (by decide) ?_
      exact ih (i + 4) to fr us se lv nx us1 se1 lv1 (by omega) (by omega) hI _ _ hP hD hS ls (lv_sub hl [1, 2, 3, 0] rfl)
    · refine lv_tableIn (tgt := 493) (off := 461) hx hb dL_law_32 (by decide) (by decide) rfl (by decide) ?_
      refine lv_aload_n hx hb dL_law_493 rfl (lv_at hl 1 rfl) ?_
      refine il_callR (ws := WX x0 a1 a2 a3 a4 a5 dx to fr us se lv) (As := []) (rest := []) (v := il_crowd lv) hF hKx (hP.sub [0, 1, 2, 3, 4, 5] rfl) 0 rfl rfl (metX0_crowded l dC dI x0 a1 a2 a3 a4 a5 dx to fr us se lv) (cwV 0 hts (lw_V q144 q145 q146 q20 q147) rfl rfl rfl (by decide +kernel) ⟨Nat.le_of_ble_eq_true rfl, Nat.le_of_ble_eq_true rfl⟩) rfl hl.1 (Nat.le_of_ble_eq_true rfl) dL_law_494 ⟨Nat.le_of_ble_eq_true rfl, Nat.le_of_ble_eq_true rfl⟩ rfl ?_
      refine lv_aload_n hx hb dL_law_497 rfl (lv_at hl 2 rfl) ?_
      refine il_callMi (ws := WY y0 b1 b2 b3 b4 dy nx us1 se1 lv1) (wr := WX x0 a1 a2 a3 a4 a5 dx to fr us se lv) (ws1 := WY y0 b1 b2 b3 b4 dy nx us1 se1 (im_spread nx us1 se1 lv1)) (As := []) (rest := [.int (il_crowd lv)]) (v := im_crowd nx us1 se1 lv1) hF hKy hP hD hS hA [6, 7, 8, 9, 10] [0, 1, 2, 3, 4, 5] rfl rfl (by decide) (by decide) (by decide) (hP.sub [6, 7, 8, 9, 10] rfl) 1 rfl rfl (metX1_crowded l dC dI y0 b1 b2 b3 b4 dy _ nx us1 se1 lv1) (cwV 0 hts (lw_V q248 q249 q250 q21 q251) rfl rfl rfl (by decide +kernel) ⟨Nat.le_of_ble_eq_true rfl, Nat.le_of_ble_eq_true rfl⟩) rfl hl.1 (Nat.le_of_ble_eq_true rfl) dL_law_498 ⟨Nat.le_of_ble_eq_true rfl, Nat.le_of_ble_eq_true rfl⟩ rfl (fun H locs hP hD hS => ?_)
      have hP : va_P (dC, dI) vwCl (WX x0 a1 a2 a3 a4 a5 dx to fr us se lv ++ WY y0 b1 b2 b3 b4 dy nx us1 se1 (im_spread nx us1 se1 lv1)) H := hP
      have hD : va_D (fun q : Nat => s.heap.size ≤ q) (WX x0 a1 a2 a3 a4 a5 dx to fr us se lv ++ WY y0 b1 b2 b3 b4 dy nx us1 se1 (im_spread nx us1 se1 lv1)) := hD
      have hq := pl_crowd hI lv1 
      refine lv_icmp_eq (tgt := 506) hx hb dL_law_501 (by decide) (fun _ => ?_) (fun cq => absurd hq cq)
      refine lv_iinc (v := nI (i + 4)) (lv' := [(3, .int (nI (i + 4))), (0, .ref b), (1, .ref x0), (2, .ref y0)]) hx hb dL_law_506 hl (k := 3) rfl (nI_add i 4) (by decide) rfl (fun ls hl => ?_)
      refine lv_goto (tgt := 18) hx hb dL_law_509 (by decide) ?_
      exact ih (i + 4) to fr us se lv nx us1 se1 (im_spread nx us1 se1 lv1) (by omega) (by omega) hI _ _ hP hD hS ls (lv_sub hl [1, 2, 3, 0] rfl)
    · refine lv_tableOut (tgt := 506) hx hb dL_law_32 (Or.inr (by decide)) (by decide) ?_
      refine lv_iinc (v := nI (i + 4)) (lv' := [(3, .int (nI (i + 4))), (0, .ref b), (1, .ref x0), (2, .ref y0)]) hx hb dL_law_506 hl (k := 3) rfl (nI_add i 4) (by decide) rfl (fun ls hl => ?_)
      refine lv_goto (tgt := 18) hx hb dL_law_509 (by decide) ?_
      exact ih (i + 4) to fr us se lv nx us1 se1 lv1 (by omega) (by omega) hI _ _ hP hD hS ls (lv_sub hl [1, 2, 3, 0] rfl)
    · refine lv_tableOut (tgt := 506) hx hb dL_law_32 (Or.inr (by decide)) (by decide) ?_
      refine lv_iinc (v := nI (i + 4)) (lv' := [(3, .int (nI (i + 4))), (0, .ref b), (1, .ref x0), (2, .ref y0)]) hx hb dL_law_506 hl (k := 3) rfl (nI_add i 4) (by decide) rfl (fun ls hl => ?_)
      refine lv_goto (tgt := 18) hx hb dL_law_509 (by decide) ?_
      exact ih (i + 4) to fr us se lv nx us1 se1 lv1 (by omega) (by omega) hI _ _ hP hD hS ls (lv_sub hl [1, 2, 3, 0] rfl)
set_option maxHeartbeats 8000000 in
set_option maxRecDepth 100000 in
/-- THE LAW, from its entry -/
theorem whole_start {p : Program} {e : Env} {s : State} {m : MethodId} {below : List Frame} {meth : Method} {c : Code} (l : Launch) {b L : Nat} {xs : Nat → Int32} (hL : L ≤ 256) (C0 : lw_At p s m meth c b L xs) : W p l e room_1 s m #[Value.ref b] below meth c s.heap [] 0 0 (lw_Z below #[Value.ref b] s) (entryFrame m ([Value.ref b] : List Value).toArray 4) := by
  obtain ⟨hx, hb, hr, hml, hown, htsT, hX, hbl, hlocks, hgv⟩ := id C0
  have hts : ∀ w ∈ lw_all, w.before #[Value.ref b] s = true := fun w h => htsT w (lw_all_tbl h)
  have hb : c.code = cL_law := hb
  have hF : CallFix p m c cL_law 4 s #[Value.ref b] lw_all R_law := ⟨hx, hb, hml, hown, hts⟩
  have hA : ∀ q : Nat, s.heap.size ≤ q → (fun q : Nat => s.heap.size ≤ q) q := fun _ h => h
  obtain ⟨c0_, iS0, hKn0⟩ := u_known (C := RX0) (T := TX0) (N := 5) (n := 5) htsT (fun w h => lw_all_tbl (in_X0 w h)) (htsT _ (lw_all_tbl q23))
  obtain ⟨c1_, iS1, hKn1⟩ := u_known (C := RX1) (T := TX1) (N := 4) (n := 4) htsT (fun w h => lw_all_tbl (in_X1 w h)) (htsT _ (lw_all_tbl q149))
  obtain ⟨dC, dI, hKc⟩ : ∃ (dC : Nat → ClassId) (dI : Nat → Nat → Nat), ∀ (k : Nat) (q : vw_C), vwCl[k]? = some q → u_Kn s q.1 q.2.1 q.2.2 (dC k) (dI k) := by
    refine ⟨fun k => if k = 0 then c0_ else c1_, fun k => if k = 0 then iS0 else iS1, ?_⟩
    intro k q hq
    match k, hq with
    | 0, hq => cases hq; exact hKn0
    | 1, hq => cases hq; exact hKn1
    | k + 2, hq => simp [vwCl] at hq
  have hS : va_S (fun q : Nat => s.heap.size ≤ q) s.heap s.heap [] := va_S.rf
  have hK : va_K (dC, dI) vwCl [] s := ⟨hKc, fun k q h => by simp at h⟩
  have hP : va_P (dC, dI) vwCl [] s.heap := fun k q h => by simp at h
  have hD : va_D (fun q : Nat => s.heap.size ≤ q) [] := ⟨fun i j p q h => by simp at h, fun k q h => by simp at h⟩
  refine il_entry (n := 4) (vs := [.ref b]) (Nat.le_of_ble_eq_true rfl) rfl (fun ls hl => ?_)
  have hl : lv_has ls 4 [(0, .ref b)] := hl
  refine va_new (ci := 0) (fs := [.null, .null, .null, .null, .null]) (C := RX0) (T := TX0) (N := 5) hx hb hts in_X0 tyX0 tyX0_ok hown (hts _ q22) (hts _ q23) (hts _ q20) hK hP hD hS hA rfl (fun j hj => by rcases (show j = 0 ∨ j = 1 ∨ j = 2 ∨ j = 3 ∨ j = 4 by omega) with rfl | rfl | rfl | rfl | rfl <;> rfl) (Nat.le_of_ble_eq_true rfl) (Nat.le_of_ble_eq_true rfl) dL_law_0 (fun x0 H hP hD hS => ?_)
  have hP : va_P (dC, dI) vwCl [(x0, .inr (0, [.null, .null, .null, .null, .null]))] H := hP
  have hD : va_D (fun q : Nat => s.heap.size ≤ q) [(x0, .inr (0, [.null, .null, .null, .null, .null]))] := hD
  refine W.widen (k := 1) (n := 5) (by decide) (by decide) ?_
  refine lv_dup hx hb dL_law_3 rfl ?_
  have hFc := va_free (wc := [(x0, .inr (0, [.null, .null, .null, .null, .null]))]) hD hS hA [0] rfl
  have hPc := hP.sub (ws' := [(x0, .inr (0, [.null, .null, .null, .null, .null]))]) [0] rfl
  have hDc := hD.sub (ws' := [(x0, .inr (0, [.null, .null, .null, .null, .null]))]) [0] (by decide) rfl
  have hKc := hK.sub (tys' := []) [] rfl
  refine va_callv (va_runI (As := []) (rest := [.ref x0]) hF (metX0_init l dC dI x0 H.size) (cwI 0 hts (lw_meth q26) rfl rfl rfl (hts _ q20) (hts _ q24) (hts _ q25) rfl (by decide +kernel) ⟨Nat.le_of_ble_eq_true rfl, Nat.le_of_ble_eq_true rfl⟩) ⟨fun a U g mk q => ⟨q.1, q.2.1, q.2.2.1, va_K.moved (u := U) (U := U.calling g mk a) (Vm.Alike.refl U.vm) q.2.2.2.1, q.2.2.2.2⟩, fun U hU hW => ⟨rfl, by rw [hU], by rw [hU]; exact hPc, va_K.moved hW.alike hKc, hDc.weaken (fun _ _ _ _ => trivial)⟩⟩ rfl rfl hl.1 rfl (lv_room (Nat.le_of_ble_eq_true rfl)) dL_law_4 ⟨Nat.le_of_ble_eq_true rfl, Nat.le_of_ble_eq_true rfl⟩) hS (fun q _ h => hFc q h) hFc (fun u t H1 locs ht hvm hw hB hz1 hk1 hS => ?_)
  obtain ⟨a1, a2, a3, a4, a5, dx, hP1, hK1, hD1⟩ := hB
  rw [ht] at hP1
  have hKx : va_K (dC, dI) vwCl [(dx, .int)] s := va_K.moved hvm.symm hK1
  obtain ⟨hP, hD⟩ := va_join (wr := []) (w1 := WX x0 a1 a2 a3 a4 a5 dx il_z il_z il_z il_z il_z) hP hD [0] [] rfl rfl (by decide) (by decide) hk1 hFc hP1 hD1
  generalize H1 = H at hP hS ⊢
  have hP : va_P (dC, dI) vwCl (WX x0 a1 a2 a3 a4 a5 dx il_z il_z il_z il_z il_z) H := hP
  have hD : va_D (fun q : Nat => s.heap.size ≤ q) (WX x0 a1 a2 a3 a4 a5 dx il_z il_z il_z il_z il_z) := hD
  refine W.widen (k := 6) (n := 65) (by decide) (by decide) ?_
  refine lv_astore_n (lv' := [(1, .ref x0), (0, .ref b)]) hx hb dL_law_7 rfl hl (by decide) rfl (fun ls hl => ?_)
  refine va_new (ci := 1) (fs := [.null, .null, .null, .null]) (C := RX1) (T := TX1) (N := 4) hx hb hts in_X1 tyX1 tyX1_ok hown (hts _ q148) (hts _ q149) (hts _ q21) hK hP hD hS hA rfl (fun j hj => by rcases (show j = 0 ∨ j = 1 ∨ j = 2 ∨ j = 3 by omega) with rfl | rfl | rfl | rfl <;> rfl) (Nat.le_of_ble_eq_true rfl) (Nat.le_of_ble_eq_true rfl) dL_law_8 (fun y0 H hP hD hS => ?_)
  have hP : va_P (dC, dI) vwCl (WX x0 a1 a2 a3 a4 a5 dx il_z il_z il_z il_z il_z ++ [(y0, .inr (1, [.null, .null, .null, .null]))]) H := hP
  have hD : va_D (fun q : Nat => s.heap.size ≤ q) (WX x0 a1 a2 a3 a4 a5 dx il_z il_z il_z il_z il_z ++ [(y0, .inr (1, [.null, .null, .null, .null]))]) := hD
  refine W.widen (k := 7) (n := 69) (by decide) (by decide) ?_
  refine lv_dup hx hb dL_law_11 rfl ?_
  have hFc := va_free (wc := [(y0, .inr (1, [.null, .null, .null, .null]))]) hD hS hA [6] rfl
  have hPc := hP.sub (ws' := [(y0, .inr (1, [.null, .null, .null, .null]))]) [6] rfl
  have hDc := hD.sub (ws' := [(y0, .inr (1, [.null, .null, .null, .null]))]) [6] (by decide) rfl
  have hKc := hK.sub (tys' := []) [] rfl
  refine va_callv (va_runI (As := []) (rest := [.ref y0]) hF (metX1_init l dC dI y0 H.size) (cwI 0 hts (lw_meth q152) rfl rfl rfl (hts _ q21) (hts _ q150) (hts _ q151) rfl (by decide +kernel) ⟨Nat.le_of_ble_eq_true rfl, Nat.le_of_ble_eq_true rfl⟩) ⟨fun a U g mk q => ⟨q.1, q.2.1, q.2.2.1, va_K.moved (u := U) (U := U.calling g mk a) (Vm.Alike.refl U.vm) q.2.2.2.1, q.2.2.2.2⟩, fun U hU hW => ⟨rfl, by rw [hU], by rw [hU]; exact hPc, va_K.moved hW.alike hKc, hDc.weaken (fun _ _ _ _ => trivial)⟩⟩ rfl rfl hl.1 rfl (lv_room (Nat.le_of_ble_eq_true rfl)) dL_law_12 ⟨Nat.le_of_ble_eq_true rfl, Nat.le_of_ble_eq_true rfl⟩) hS (fun q _ h => hFc q h) hFc (fun u t H1 locs ht hvm hw hB hz1 hk1 hS => ?_)
  obtain ⟨b1, b2, b3, b4, dy, hP1, hK1, hD1⟩ := hB
  rw [ht] at hP1
  have hKy : va_K (dC, dI) vwCl [(dy, .int)] s := va_K.moved hvm.symm hK1
  obtain ⟨hP, hD⟩ := va_join (wr := WX x0 a1 a2 a3 a4 a5 dx il_z il_z il_z il_z il_z) (w1 := WY y0 b1 b2 b3 b4 dy il_z il_z il_z il_z) hP hD [6] [0, 1, 2, 3, 4, 5] rfl rfl (by decide) (by decide) hk1 hFc hP1 hD1
  generalize H1 = H at hP hS ⊢
  refine W.widen (k := 11) (n := 117) (by decide) (by decide) ?_
  refine lv_astore_n (lv' := [(2, .ref y0), (1, .ref x0), (0, .ref b)]) hx hb dL_law_15 rfl hl (by decide) rfl (fun ls hl => ?_)
  refine lv_iconst (v := 0) hx hb dL_law_16 (by decide) ?_
  refine lv_istore_n (lv' := [(3, .int 0), (2, .ref y0), (1, .ref x0), (0, .ref b)]) hx hb dL_law_17 rfl hl (by decide) rfl (fun ls hl => ?_)
  exact law_loop l hL C0 hKx hKy (L + 1) 0 il_z il_z il_z il_z il_z il_z il_z il_z il_z (by omega) (by omega) pl_start _ _ hP hD hS ls (lv_sub hl [3, 2, 1, 0] rfl)
end
section
set_option maxHeartbeats 4000000 in
theorem lw_walk (l : Launch) (b : Addr) (xs : List Int32) : MetFree l x (headSpec (Jvm.Cond.code x code maxLocals ret :: tables_1) room_1) (lw_P b xs) (fun _ _ _ _ _ => True) lw_Q := by
  refine MetFree.of_bodyS (code := code) (maxLocals := maxLocals) (ret := ret) (by decide) ?_ ?_
  · intro args s m h hn
    obtain ⟨meth, c, h1, h2, h3, h4, h5, h6, -, -⟩ := Cond.code_spec hn (atoms_spec (ws := Jvm.Cond.code x code maxLocals ret :: tables_1) h _ List.mem_cons_self)
    exact ⟨meth, c, h1, h2, h3, h4, h5, h6⟩
  · intro p e s m args below meth c s₁ B hml0 hP _
    obtain ⟨rfl, hx, hbd, hgv⟩ := hP
    obtain ⟨scr, harrAt, hlist, hof, hsmall⟩ := hx
    obtain ⟨hcb, hkn, -, -⟩ := State.arrayAt?_spec harrAt
    have hown : s.vm.findClass R_law = some m.cls := findClass_of_methodNamed B.named
    have hts0 : ∀ c ∈ (Jvm.Cond.code x code maxLocals ret :: tables_1), c.before #[Value.ref b] s = true := atoms_spec (ws := Jvm.Cond.code x code maxLocals ret :: tables_1) B.pre
    have hts : ∀ w ∈ lw_tbl, w.before #[Value.ref b] s = true := k2_hts_sels lw_privs (fun w hw => hts0 w (List.mem_cons_of_mem _ hw)) lw_privs_ok
    have hml : c.maxLocals = 4 := B.maxLocals_eq (hts0 _ List.mem_cons_self)
    have X₀ : Stand p l e room_1 s m #[Value.ref b] below meth c s₁ [] 0 0 := Stand.of_body B
    have hh0 : s₁.heap = s.heap := by rw [B.state]; rfl
    have hsz : scr.slots.size = xs.length := by rw [← Array.length_toList, hlist, List.length_map]
    have hval : ∀ j : Nat, j < xs.length → scr.slots[j]? = some (.int (xs.getD j 0)) := fun j hj => by
      rw [← Array.getElem?_toList, hlist]
      simp [hj]
    have hbl : b < s.heap.size := (Array.getElem?_eq_some_iff.mp hcb).1
    have hX : va_X b xs.length (fun j => xs.getD j 0) s s.heap := ⟨scr, hcb, hof, hkn, hsz, hval⟩
    have K : W p l e room_1 s m #[Value.ref b] below meth c s₁.heap [] 0 0 (lw_Z below #[Value.ref b] s) (entryFrame m ([Value.ref b] : List Value).toArray 4) := by
      rw [hh0]
      exact whole_start l hbd ⟨B.exec, B.bytes, B.returns, hml, hown, hts, hX, hbl, B.notSynchronized, hgv⟩
    obtain ⟨t, a1, o, b1, b2, b3⟩ := K s₁ rfl X₀
    exact ⟨t, o, a1, b1, b2, b3⟩
theorem lw_pre_spec {args : Array Value} {s : State} (h : (Jvm.Cond.and given_1 narrow_1).before args s = true) (hr : rest_1_c.before args s = true) : ∃ (b : Addr) (xs : List Int32), lw_P b xs args s := by
  have hs := flat_of_before _ h
  have hq := flat_of_before _ hr
  have hc : (Cond.count 1).before args s = true := hs _ (by decide +kernel)
  have harr : (Cond.arrayOf (.arg 0) .int).before args s = true := hs _ (by decide +kernel)
  have hle : (Cond.le (.length (.arg 0)) (.int 256)).before args s = true := hs _ (by decide +kernel)
  have hlen : (Cond.isInt (.length (.arg 0))).before args s = true := hq _ (by decide +kernel)
  have hall : (Cond.all (.arg 0) (.isInt (.elem (.arg 0) (.index 0)))).before args s = true := hq _ (by decide +kernel)
  obtain ⟨b, xs, hb, hx⟩ := State.ints_of_pre rfl harr hlen hall
  have hsm : xs.length < 2 ^ 31 := hx.choose_spec.2.2.2
  have hev : (Term.length (.arg 0)).eval args s none [] s = some (.int xs.length.toInt32) := hx.length_eval hb
  have hv := Cond.le_ints hev (show (Term.int 256).eval args s none [] s = some (.int 256) from rfl)
  have hd : xs.length.toInt32 ≤ 256 := by
    simpa [Cond.before, Cond.holds, hv] using hle
  have hN : xs.length ≤ 256 := (Int32.ofNat_le_ofNat hsm (by decide)).mp (show Int32.ofNat xs.length ≤ Int32.ofNat 256 from hd)
  exact ⟨b, xs, Cond.one_arg hc (show args[0]? = some (.ref b) from hb), hx, hN, h⟩
theorem lw_comes (l : Launch) : Comes l x (Jvm.Cond.code x code maxLocals ret :: tables_1) room_1 (fun tb e args s => Calls_1 tb e args s ∧ rest_1 tb e args s ∧ Pre_1 tb e args s)
    (fun _ _ args s o t => lw_Q args s o t) := by
  intro p e ha hc hk s m args below hf hfit hheap happ hpre
  obtain ⟨b, xs, hP⟩ := lw_pre_spec hpre.2.2 hpre.2.1
  obtain ⟨k, o, h1, h2, h3, hQ⟩ := lw_walk l b xs p e ha hc hk s m args below hf ((Spec.applies_iff_loose hf).mp happ).1 hP trivial
  exact ⟨k, o, h1, h2, h3, hQ⟩
theorem lw_frame {s t : State} {o : Outcome} {args : Array Value} (h : Framed s o t [] 600000 7290000) :
    Framed s o t (fieldLocs frame_1_writes args s ++ arrayLocs frame_1_arrays args s ++ staticLocs frame_1_statics s) 600000 7290000 := h
theorem lw_limb (L : Cond) (hL : ∀ (args : Array Value) (s t : State), L.after args s (.returned (some (.int 1))) t = true) :
    ArmFor flags0 classFile x code maxLocals ret World_1 tables_1 room_1 Calls_1 rest_1 Pre_1
      (fun tb e a s o t => postC L tb e a s o t ∧ Framed s o t (fieldLocs frame_1_writes a s ++ arrayLocs frame_1_arrays a s ++ staticLocs frame_1_statics s) 600000 7290000) := by
  intro l _ _ _ p e ha hc hk s m args below hf hfit hheap happ hpre
  obtain ⟨k, o, h1, h2, h3, rfl, hF⟩ := lw_comes l p e ha hc hk s m args below hf hfit hheap happ hpre
  exact ⟨k, _, h1, h2, h3, hL args s _, lw_frame hF⟩
theorem i_vc : Claimed_1_1 ∧ Claimed_1_2 := ⟨lw_limb limb_1_1 (fun args s t => by simp [limb_1_1, Cond.after, Cond.holds, Cond.value]), lw_limb limb_1_2 (fun args s t => Cond.after_iff.mpr (by
  first | (rw [show limb_1_2 = Cond.eq .result (.int 1) from rfl, Cond.eq_ints (x := 1) (y := 1) rfl rfl]; simp; done) | (simp [limb_1_2, Cond.value, Term.eval]; done)))⟩
end
